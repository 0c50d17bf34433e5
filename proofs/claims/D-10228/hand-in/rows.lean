section
/-- the least length of a word of state v -/
def zd_mn (W : Nat → List Nat) (lk : Nat → Nat) (v : Nat) : Nat := if v = 0 then 0 else (W (lk v)).length + 1
/-- x (reversed) is a word of state v -/
def zd_cl (W : Nat → List Nat) (lk : Nat → Nat) (v : Nat) (x : List Nat) : Prop := x <+: W v ∧ zd_mn W lk v ≤ x.length
/-- the automaton of all words of w (reversed): n states, h the state of w -/
def zd_I (n h : Nat) (w : List Nat) (W : Nat → List Nat) (lk : Nat → Nat) (nx : Nat → Nat → Nat) : Prop :=
  (0 < n ∧ W 0 = [] ∧ h < n ∧ W h = w) ∧
  (∀ v, v < n → v ≠ 0 → lk v < n ∧ W (lk v) <+: W v ∧ (W (lk v)).length < (W v).length) ∧
  (∀ v, v < n → W v <:+: w) ∧
  (∀ v c, v < n → c < 4 → nx v c ≠ 0 → nx v c < n ∧ (c :: W v) <+: W (nx v c) ∧ zd_mn W lk (nx v c) ≤ zd_mn W lk v + 1) ∧
  (∀ v c x, v < n → c < 4 → zd_cl W lk v x → (c :: x) <:+: w → nx v c ≠ 0) ∧
  (∀ u v x, u < n → v < n → zd_cl W lk u x → zd_cl W lk v x → u = v)
section
variable {n h : Nat} {w : List Nat} {W : Nat → List Nat} {lk : Nat → Nat} {nx : Nat → Nat → Nat}
theorem zd_a (I : zd_I n h w W lk nx) : 0 < n ∧ W 0 = [] ∧ h < n ∧ W h = w := I.1
theorem zd_b (I : zd_I n h w W lk nx) {v : Nat} (hv : v < n) (h0 : v ≠ 0) : lk v < n ∧ W (lk v) <+: W v ∧ (W (lk v)).length < (W v).length := I.2.1 v hv h0
theorem zd_c (I : zd_I n h w W lk nx) {v : Nat} (hv : v < n) : W v <:+: w := I.2.2.1 v hv
theorem zd_d (I : zd_I n h w W lk nx) {v c : Nat} (hv : v < n) (hc : c < 4) (h0 : nx v c ≠ 0) : nx v c < n ∧ (c :: W v) <+: W (nx v c) ∧ zd_mn W lk (nx v c) ≤ zd_mn W lk v + 1 := I.2.2.2.1 v c hv hc h0
theorem zd_e (I : zd_I n h w W lk nx) {v c : Nat} {x : List Nat} (hv : v < n) (hc : c < 4) (hx : zd_cl W lk v x) (hf : (c :: x) <:+: w) : nx v c ≠ 0 := I.2.2.2.2.1 v c x hv hc hx hf
theorem zd_f (I : zd_I n h w W lk nx) {u v : Nat} {x : List Nat} (hu : u < n) (hv : v < n) (h1 : zd_cl W lk u x) (h2 : zd_cl W lk v x) : u = v := I.2.2.2.2.2 u v x hu hv h1 h2
theorem zd_mn_le (I : zd_I n h w W lk nx) {v : Nat} (hv : v < n) : zd_mn W lk v ≤ (W v).length := by
  unfold zd_mn
  by_cases e : v = 0
  · rw [if_pos e]
    exact Nat.zero_le _
  · rw [if_neg e]
    have := (zd_b I hv e).2.2
    omega
theorem zd_mn0 (W : Nat → List Nat) (lk : Nat → Nat) : zd_mn W lk 0 = 0 := by
  unfold zd_mn
  rw [if_pos rfl]
theorem zd_mn1 (W : Nat → List Nat) (lk : Nat → Nat) {v : Nat} (h0 : v ≠ 0) : zd_mn W lk v = (W (lk v)).length + 1 := by
  unfold zd_mn
  rw [if_neg h0]
theorem zd_own (I : zd_I n h w W lk nx) {v : Nat} (hv : v < n) : zd_cl W lk v (W v) := ⟨List.prefix_rfl, zd_mn_le I hv⟩
theorem zd_step (I : zd_I n h w W lk nx) {v c : Nat} {x : List Nat} (hv : v < n) (hc : c < 4) (hx : zd_cl W lk v x) (h0 : nx v c ≠ 0) : zd_cl W lk (nx v c) (c :: x) := by
  obtain ⟨h1, h2, h3⟩ := zd_d I hv hc h0
  refine ⟨((List.prefix_cons_inj c).mpr hx.1).trans h2, ?_⟩
  have := hx.2
  rw [List.length_cons]
  omega
theorem zd_fac (I : zd_I n h w W lk nx) {v : Nat} {x : List Nat} (hv : v < n) (hx : zd_cl W lk v x) : x <:+: w := hx.1.isInfix.trans (zd_c I hv)
theorem zd_chain (I : zd_I n h w W lk nx) : ∀ m u, u < n → (W u).length ≤ m → ∀ x, x <+: W u → ∃ v, v < n ∧ W v <+: W u ∧ zd_cl W lk v x := by
  intro m
  induction m with
  | zero =>
    intro u hu hm x hx
    refine ⟨u, hu, List.prefix_rfl, hx, ?_⟩
    have := zd_mn_le I hu
    omega
  | succ m ih =>
    intro u hu hm x hx
    by_cases z : zd_mn W lk u ≤ x.length
    · exact ⟨u, hu, List.prefix_rfl, hx, z⟩
    · have u0 : u ≠ 0 := fun e => z (by rw [e, zd_mn0]; exact Nat.zero_le _)
      rw [zd_mn1 W lk u0] at z
      obtain ⟨b1, b2, b3⟩ := zd_b I hu u0
      obtain ⟨v, v1, v2, v3⟩ := ih (lk u) b1 (by omega) x (List.prefix_of_prefix_length_le hx b2 (by omega))
      exact ⟨v, v1, v2.trans b2, v3⟩
theorem zd_suf (I : zd_I n h w W lk nx) {v : Nat} {x : List Nat} (hv : v < n) (hx : zd_cl W lk v x) (hw : x <+: w) : W v <+: w := by
  obtain ⟨_, _, a3, a4⟩ := zd_a I
  obtain ⟨u, u1, u2, u3⟩ := zd_chain I _ h a3 (Nat.le_refl _) x (by rw [a4]; exact hw)
  rw [a4] at u2
  rw [zd_f I hv u1 hx u3]
  exact u2
/-- between two lengths of one chain there is one state -/
theorem zd_only (I : zd_I n h w W lk nx) {p v : Nat} {y : List Nat} (hp : p < n) (hv : v < n) (hpy : W p <+: y) (hvy : W v <+: y) (h1 : zd_mn W lk p ≤ (W v).length) (h2 : (W v).length ≤ (W p).length) : v = p :=
  zd_f I hv hp (zd_own I hv) ⟨List.prefix_of_prefix_length_le hvy hpy h2, h1⟩
theorem zd_walk (I : zd_I n h w W lk nx) {p c : Nat} (hp : p < n) (hc : c < 4) (hw : W p <+: w) (hb : ∀ y, y <+: w → (W p).length < y.length → ¬ (c :: y) <:+: w) (h0 : nx p c = 0) :
    ∀ y, y <+: w → zd_mn W lk p ≤ y.length → ¬ (c :: y) <:+: w := by
  intro y hy hl hf
  rcases Nat.lt_or_ge (W p).length y.length with z | z
  · exact hb y hy z hf
  · exact zd_e I hp hc ⟨List.prefix_of_prefix_length_le hy hw z, hl⟩ hf h0
/-- what is read from p on by c is a word of w -/
theorem zd_in (I : zd_I n h w W lk nx) {p c : Nat} (hp : p < n) (hc : c < 4) (h0 : nx p c ≠ 0) : (c :: W p) <:+: w := by
  obtain ⟨h1, h2, _⟩ := zd_d I hp hc h0
  exact h2.isInfix.trans (zd_c I h1)
theorem zd_low (I : zd_I n h w W lk nx) {p v c : Nat} (hp : p < n) (hc : c < 4) (hpw : W p <+: w) (h0 : nx p c ≠ 0) (hv : v < n) (hvw : W v <+: w) (v0 : nx v c = 0) : (W p).length + 1 ≤ zd_mn W lk v := by
  rcases Nat.lt_or_ge (W p).length (zd_mn W lk v) with z | z
  · exact z
  · exfalso
    rcases Nat.le_total (W p).length (W v).length with y | y
    · have e := zd_f I hp hv (zd_own I hp) ⟨List.prefix_of_prefix_length_le hpw hvw y, z⟩
      rw [e] at h0
      exact h0 v0
    · have e := List.prefix_of_prefix_length_le hvw hpw y
      exact zd_e I hv hc (zd_own I hv) (((List.prefix_cons_inj c).mpr e).isInfix.trans (zd_in I hp hc h0)) v0
theorem zd_red (I : zd_I n h w W lk nx) {p v c d : Nat} (hp : p < n) (hc : c < 4) (h0 : nx p c ≠ 0) (hv : v < n) (hd : d < 4) (e : nx v d = nx p c) (hn : ¬ (d = c ∧ W v <+: W p)) : (W p).length + 1 ≤ zd_mn W lk v := by
  rcases Nat.lt_or_ge (W p).length (zd_mn W lk v) with z | z
  · exact z
  · exfalso
    obtain ⟨_, p2, _⟩ := zd_d I hp hc h0
    obtain ⟨_, v2, _⟩ := zd_d I hv hd (by rw [e]; exact h0)
    rw [e] at v2
    rcases List.prefix_or_prefix_of_prefix v2 p2 with y | y
    · exact hn (List.cons_prefix_cons.mp y)
    · obtain ⟨y1, y2⟩ := List.cons_prefix_cons.mp y
      have e2 := zd_f I hp hv (zd_own I hp) ⟨y2, z⟩
      exact hn ⟨y1.symm, by rw [e2]; exact List.prefix_rfl⟩
/-- a letter more, no split: the new state n hangs on r -/
theorem zd_cB (I : zd_I n h w W lk nx) {c r : Nat} {W' : Nat → List Nat} {lk' : Nat → Nat} {g : Nat → Nat → Nat}
    (hc : c < 4) (hr : r < n) (hrw : W r <+: c :: w) (hb : ∀ y, y <+: w → (W r).length ≤ y.length → ¬ (c :: y) <:+: w)
    (low : ∀ v, v < n → W v <+: w → nx v c = 0 → (W r).length ≤ zd_mn W lk v)
    (eW : ∀ v, v < n → W' v = W v) (eN : W' n = c :: w) (kW : ∀ v, v < n → lk' v = lk v) (kN : lk' n = r)
    (g1 : ∀ v, v < n → W v <+: w → nx v c = 0 → g v c = n)
    (g3 : ∀ v d, v < n → d < 4 → ¬ (d = c ∧ W v <+: w ∧ nx v c = 0) → g v d = nx v d)
    (g4 : ∀ d, d < 4 → g n d = 0) : zd_I (n + 1) n (c :: w) W' lk' g := by
  obtain ⟨a1, a2, a3, a4⟩ := zd_a I
  have mV : ∀ v, v < n → zd_mn W' lk' v = zd_mn W lk v := by
    intro v hv
    by_cases e : v = 0
    · rw [e, zd_mn0, zd_mn0]
    · rw [zd_mn1 _ _ e, zd_mn1 _ _ e, kW v hv, eW _ (zd_b I hv e).1]
  have mN : zd_mn W' lk' n = (W r).length + 1 := by
    rw [zd_mn1 _ _ (by omega), kN, eW r hr]
  have cV : ∀ v x, v < n → zd_cl W' lk' v x → zd_cl W lk v x := fun v x hv hx => ⟨by rw [← eW v hv]; exact hx.1, by rw [← mV v hv]; exact hx.2⟩
  have cN : ∀ x, zd_cl W' lk' n x → ¬ x <:+: w := by
    intro x hx hf
    obtain ⟨h1, h2⟩ := hx
    rw [eN] at h1
    rw [mN] at h2
    rcases List.prefix_cons_iff.mp h1 with z | ⟨t, t1, t2⟩
    · rw [z, List.length_nil] at h2
      omega
    · rw [t1, List.length_cons] at h2
      exact hb t t2 (by omega) (by rw [← t1]; exact hf)
  refine ⟨⟨by omega, by rw [eW 0 a1]; exact a2, by omega, eN⟩, ?_, ?_, ?_, ?_, ?_⟩
  · intro v hv v0
    by_cases e : v = n
    · rw [e, kN, eN, eW r hr]
      refine ⟨by omega, hrw, ?_⟩
      have := (zd_c I hr).length_le
      rw [List.length_cons]
      omega
    · have hv' : v < n := by omega
      obtain ⟨b1, b2, b3⟩ := zd_b I hv' v0
      rw [kW v hv', eW v hv', eW _ b1]
      exact ⟨by omega, b2, b3⟩
  · intro v hv
    by_cases e : v = n
    · rw [e, eN]
      exact List.infix_rfl
    · have hv' : v < n := by omega
      rw [eW v hv']
      exact List.infix_cons (zd_c I hv')
  · intro v d hv hd h0
    by_cases e : v = n
    · rw [e, g4 d hd] at h0
      exact absurd rfl h0
    · have hv' : v < n := by omega
      by_cases A : d = c ∧ W v <+: w ∧ nx v c = 0
      · obtain ⟨A1, A2, A3⟩ := A
        rw [A1, g1 v hv' A2 A3, eN, mN, eW v hv', mV v hv']
        refine ⟨by omega, (List.prefix_cons_inj c).mpr A2, ?_⟩
        have := low v hv' A2 A3
        omega
      · rw [g3 v d hv' hd A] at h0 ⊢
        obtain ⟨B1, B2, B3⟩ := zd_d I hv' hd h0
        rw [eW v hv', eW _ B1, mV v hv', mV _ B1]
        exact ⟨by omega, B2, B3⟩
  · intro v d x hv hd hx hf
    by_cases e : v = n
    · exfalso
      rw [e] at hx
      rcases List.infix_cons_iff.mp hf with f | f
      · exact cN x hx (List.cons_prefix_cons.mp f).2.isInfix
      · exact cN x hx ((List.suffix_cons d x).isInfix.trans f)
    · have hv' : v < n := by omega
      have hx' := cV v x hv' hx
      by_cases A : d = c ∧ W v <+: w ∧ nx v c = 0
      · rw [A.1, g1 v hv' A.2.1 A.2.2]
        omega
      · rw [g3 v d hv' hd A]
        rcases List.infix_cons_iff.mp hf with f | f
        · obtain ⟨f1, f2⟩ := List.cons_prefix_cons.mp f
          intro z
          exact A ⟨f1, zd_suf I hv' hx' f2, by rw [← f1]; exact z⟩
        · exact zd_e I hv' hd hx' f
  · intro u v x hu hv hxu hxv
    by_cases eu : u = n
    · by_cases ev : v = n
      · rw [eu, ev]
      · exfalso
        rw [eu] at hxu
        have hv' : v < n := by omega
        exact cN x hxu (zd_fac I hv' (cV v x hv' hxv))
    · have hu' : u < n := by omega
      by_cases ev : v = n
      · exfalso
        rw [ev] at hxv
        exact cN x hxv (zd_fac I hu' (cV u x hu' hxu))
      · have hv' : v < n := by omega
        exact zd_f I hu' hv' (cV u x hu' hxu) (cV v x hv' hxv)
/-- a letter more, with a split: n is the new state, n + 1 the twin of q -/
theorem zd_cC (I : zd_I n h w W lk nx) {c p q : Nat} {W' : Nat → List Nat} {lk' : Nat → Nat} {g : Nat → Nat → Nat}
    (hc : c < 4) (hp : p < n) (hpw : W p <+: w) (hb : ∀ y, y <+: w → (W p).length < y.length → ¬ (c :: y) <:+: w)
    (hq : nx p c = q) (hq0 : q ≠ 0) (hne : (W q).length ≠ (W p).length + 1)
    (eW : ∀ v, v < n → W' v = W v) (eN : W' n = c :: w) (eT : W' (n + 1) = c :: W p)
    (kW : ∀ v, v < n → v ≠ q → lk' v = lk v) (kQ : lk' q = n + 1) (kT : lk' (n + 1) = lk q) (kN : lk' n = n + 1)
    (g1 : ∀ v, v < n → W v <+: w → nx v c = 0 → g v c = n)
    (g2 : ∀ v, v < n → W v <+: W p → nx v c = q → g v c = n + 1)
    (g3 : ∀ v d, v < n → d < 4 → ¬ (d = c ∧ W v <+: w ∧ nx v c = 0) → ¬ (d = c ∧ W v <+: W p ∧ nx v c = q) → g v d = nx v d)
    (g4 : ∀ d, d < 4 → g n d = 0)
    (g5 : ∀ d, d < 4 → (d = c ∧ W q <+: w ∧ nx q c = 0 → g (n + 1) d = n) ∧ (¬ (d = c ∧ W q <+: w ∧ nx q c = 0) → g (n + 1) d = nx q d)) :
    zd_I (n + 2) n (c :: w) W' lk' g := by
  obtain ⟨a1, a2, a3, a4⟩ := zd_a I
  have hp0 : nx p c ≠ 0 := by rw [hq]; exact hq0
  obtain ⟨hqn, hpq, hmq⟩ := zd_d I hp hc hp0
  rw [hq] at hqn hpq hmq
  have hmp := zd_mn_le I hp
  have lpq := hpq.length_le
  rw [List.length_cons] at lpq
  obtain ⟨lq1, lq2, lq3⟩ := zd_b I hqn hq0
  have fq : (c :: W p) <:+: w := hpq.isInfix.trans (zd_c I hqn)
  have lpw := fq.length_le
  rw [List.length_cons] at lpw
  have mV : ∀ v, v < n → v ≠ q → zd_mn W' lk' v = zd_mn W lk v := by
    intro v hv hvq
    by_cases e : v = 0
    · rw [e, zd_mn0, zd_mn0]
    · rw [zd_mn1 _ _ e, zd_mn1 _ _ e, kW v hv hvq, eW _ (zd_b I hv e).1]
  have mQ : zd_mn W' lk' q = (W p).length + 2 := by
    rw [zd_mn1 _ _ hq0, kQ, eT, List.length_cons]
  have mT : zd_mn W' lk' (n + 1) = zd_mn W lk q := by
    rw [zd_mn1 _ _ (by omega), zd_mn1 _ _ hq0, kT, eW _ lq1]
  have mN : zd_mn W' lk' n = (W p).length + 2 := by
    rw [zd_mn1 _ _ (by omega), kN, eT, List.length_cons]
  have mG : ∀ v, v < n → zd_mn W lk v ≤ zd_mn W' lk' v := by
    intro v hv
    by_cases e : v = q
    · rw [e, mQ]
      omega
    · rw [mV v hv e]
      exact Nat.le_refl _
  have cV : ∀ v x, v < n → zd_cl W' lk' v x → zd_cl W lk v x := fun v x hv hx => ⟨by rw [← eW v hv]; exact hx.1, Nat.le_trans (mG v hv) hx.2⟩
  have cT : ∀ x, zd_cl W' lk' (n + 1) x → zd_cl W lk q x ∧ x.length ≤ (W p).length + 1 := by
    intro x hx
    obtain ⟨h1, h2⟩ := hx
    rw [eT] at h1
    rw [mT] at h2
    have l := h1.length_le
    rw [List.length_cons] at l
    exact ⟨⟨h1.trans hpq, h2⟩, l⟩
  have cN : ∀ x, zd_cl W' lk' n x → ¬ x <:+: w := by
    intro x hx hf
    obtain ⟨h1, h2⟩ := hx
    rw [eN] at h1
    rw [mN] at h2
    rcases List.prefix_cons_iff.mp h1 with z | ⟨t, t1, t2⟩
    · rw [z, List.length_nil] at h2
      omega
    · rw [t1, List.length_cons] at h2
      exact hb t t2 (by omega) (by rw [← t1]; exact hf)
  have low : ∀ v, v < n → W v <+: w → nx v c = 0 → (W p).length + 1 ≤ zd_mn W lk v := fun v hv h1 h2 => zd_low I hp hc hpw hp0 hv h1 h2
  have cut : ∀ v, v < n + 2 → v < n ∨ v = n ∨ v = n + 1 := fun v hv => by omega
  refine ⟨⟨by omega, by rw [eW 0 a1]; exact a2, by omega, eN⟩, ?_, ?_, ?_, ?_, ?_⟩
  · intro v hv v0
    rcases cut v hv with hv' | e | e
    · by_cases e : v = q
      · rw [e, kQ, eT, eW q hqn]
        refine ⟨by omega, hpq, ?_⟩
        rw [List.length_cons]
        omega
      · obtain ⟨b1, b2, b3⟩ := zd_b I hv' v0
        rw [kW v hv' e, eW v hv', eW _ b1]
        exact ⟨by omega, b2, b3⟩
    · rw [e, kN, eT, eN]
      refine ⟨by omega, (List.prefix_cons_inj c).mpr hpw, ?_⟩
      rw [List.length_cons, List.length_cons]
      omega
    · have l2 := zd_mn1 W lk hq0
      rw [e, kT, eT, eW _ lq1]
      refine ⟨by omega, List.prefix_of_prefix_length_le lq2 hpq ?_, ?_⟩
      · rw [List.length_cons]
        omega
      · rw [List.length_cons]
        omega
  · intro v hv
    rcases cut v hv with hv' | e | e
    · rw [eW v hv']
      exact List.infix_cons (zd_c I hv')
    · rw [e, eN]
      exact List.infix_rfl
    · rw [e, eT]
      exact List.infix_cons fq
  · intro v d hv hd h0
    rcases cut v hv with hv' | e | e
    · have gv := mG v hv'
      by_cases A1 : d = c ∧ W v <+: w ∧ nx v c = 0
      · obtain ⟨e1, e2, e3⟩ := A1
        have := low v hv' e2 e3
        rw [e1, g1 v hv' e2 e3, eN, mN, eW v hv']
        exact ⟨by omega, (List.prefix_cons_inj c).mpr e2, by omega⟩
      · by_cases A2 : d = c ∧ W v <+: W p ∧ nx v c = q
        · obtain ⟨e1, e2, e3⟩ := A2
          have t := (zd_d I hv' hc (by rw [e3]; exact hq0)).2.2
          rw [e3] at t
          rw [e1, g2 v hv' e2 e3, eT, mT, eW v hv']
          exact ⟨by omega, (List.prefix_cons_inj c).mpr e2, by omega⟩
        · rw [g3 v d hv' hd A1 A2] at h0 ⊢
          obtain ⟨B1, B2, B3⟩ := zd_d I hv' hd h0
          refine ⟨by omega, by rw [eW v hv', eW _ B1]; exact B2, ?_⟩
          by_cases e : nx v d = q
          · have := zd_red I hp hc hp0 hv' hd (by rw [e, hq]) (fun z => A2 ⟨z.1, z.2, by rw [← z.1]; exact e⟩)
            rw [e, mQ]
            omega
          · rw [mV _ B1 e]
            omega
    · rw [e, g4 d hd] at h0
      exact absurd rfl h0
    · rw [e] at h0 ⊢
      by_cases A : d = c ∧ W q <+: w ∧ nx q c = 0
      · have := low q hqn A.2.1 A.2.2
        rw [(g5 d hd).1 A, eT, eN, mN, mT, A.1]
        exact ⟨by omega, (List.prefix_cons_inj c).mpr (hpq.trans A.2.1), by omega⟩
      · rw [(g5 d hd).2 A] at h0 ⊢
        obtain ⟨B1, B2, B3⟩ := zd_d I hqn hd h0
        have l := B2.length_le
        rw [List.length_cons] at l
        have e2 : nx q d ≠ q := fun z => by
          rw [z] at l
          omega
        rw [eT, eW _ B1, mV _ B1 e2, mT]
        exact ⟨by omega, ((List.prefix_cons_inj d).mpr hpq).trans B2, B3⟩
  · intro v d x hv hd hx hf
    rcases cut v hv with hv' | e | e
    · have hx' := cV v x hv' hx
      by_cases A1 : d = c ∧ W v <+: w ∧ nx v c = 0
      · rw [A1.1, g1 v hv' A1.2.1 A1.2.2]
        omega
      · by_cases A2 : d = c ∧ W v <+: W p ∧ nx v c = q
        · rw [A2.1, g2 v hv' A2.2.1 A2.2.2]
          omega
        · rw [g3 v d hv' hd A1 A2]
          rcases List.infix_cons_iff.mp hf with f | f
          · obtain ⟨f1, f2⟩ := List.cons_prefix_cons.mp f
            intro z
            exact A1 ⟨f1, zd_suf I hv' hx' f2, by rw [← f1]; exact z⟩
          · exact zd_e I hv' hd hx' f
    · exfalso
      rw [e] at hx
      rcases List.infix_cons_iff.mp hf with f | f
      · exact cN x hx (List.cons_prefix_cons.mp f).2.isInfix
      · exact cN x hx ((List.suffix_cons d x).isInfix.trans f)
    · rw [e] at hx ⊢
      obtain ⟨hx', _⟩ := cT x hx
      by_cases A : d = c ∧ W q <+: w ∧ nx q c = 0
      · rw [(g5 d hd).1 A]
        omega
      · rw [(g5 d hd).2 A]
        rcases List.infix_cons_iff.mp hf with f | f
        · obtain ⟨f1, f2⟩ := List.cons_prefix_cons.mp f
          intro z
          exact A ⟨f1, zd_suf I hqn hx' f2, by rw [← f1]; exact z⟩
        · exact zd_e I hqn hd hx' f
  · have S1 : ∀ u x, u < n → zd_cl W' lk' u x → zd_cl W' lk' n x → False := fun u x hu h1 h2 => cN x h2 (zd_fac I hu (cV u x hu h1))
    have S2 : ∀ u x, u < n → zd_cl W' lk' u x → zd_cl W' lk' (n + 1) x → False := by
      intro u x hu h1 h2
      obtain ⟨k1, k2⟩ := cT x h2
      have e := zd_f I hu hqn (cV u x hu h1) k1
      have h3 := h1.2
      rw [e, mQ] at h3
      omega
    have S3 : ∀ x, zd_cl W' lk' n x → zd_cl W' lk' (n + 1) x → False := fun x h1 h2 => cN x h1 (zd_fac I hqn (cT x h2).1)
    intro u v x hu hv hxu hxv
    rcases cut u hu with hu' | eu | eu
    · rcases cut v hv with hv' | ev | ev
      · exact zd_f I hu' hv' (cV u x hu' hxu) (cV v x hv' hxv)
      · rw [ev] at hxv
        exact (S1 u x hu' hxu hxv).elim
      · rw [ev] at hxv
        exact (S2 u x hu' hxu hxv).elim
    · rw [eu] at hxu
      rcases cut v hv with hv' | ev | ev
      · exact (S1 v x hv' hxv hxu).elim
      · rw [eu, ev]
      · rw [ev] at hxv
        exact (S3 x hxu hxv).elim
    · rw [eu] at hxu
      rcases cut v hv with hv' | ev | ev
      · exact (S2 v x hv' hxv hxu).elim
      · rw [ev] at hxv
        exact (S3 x hxv hxu).elim
      · rw [eu, ev]
/-- the empty source -/
theorem zd_I0 (nx0 : Nat → Nat → Nat) (hn : ∀ d, d < 4 → nx0 0 d = 0) : zd_I 1 0 [] (fun _ => []) lk nx0 := by
  refine ⟨⟨by omega, rfl, by omega, rfl⟩, ?_, ?_, ?_, ?_, ?_⟩
  · intro v hv h0
    omega
  · intro v hv
    exact List.infix_rfl
  · intro v c hv hc h0
    have e : v = 0 := by omega
    rw [e, hn c hc] at h0
    exact absurd rfl h0
  · intro v c x hv hc hx hf
    have := hf.length_le
    rw [List.length_cons, List.length_nil] at this
    omega
  · intro u v x hu hv _ _
    omega
end
end
section
/-- the k letters f i, f (i + 1), .., reversed -/
def zd_sg (f : Nat → Nat) (i : Nat) : Nat → List Nat
  | 0 => []
  | k + 1 => f (i + k) :: zd_sg f i k
theorem zd_sg_len (f : Nat → Nat) (i k : Nat) : (zd_sg f i k).length = k := by
  induction k with
  | zero => rfl
  | succ k ih =>
    show (f (i + k) :: zd_sg f i k).length = k + 1
    rw [List.length_cons, ih]
theorem zd_sg_add (f : Nat → Nat) (i k m : Nat) : zd_sg f i (k + m) = zd_sg f (i + k) m ++ zd_sg f i k := by
  induction m with
  | zero => rfl
  | succ m ih =>
    show f (i + (k + m)) :: zd_sg f i (k + m) = (f (i + k + m) :: zd_sg f (i + k) m) ++ zd_sg f i k
    rw [ih, Nat.add_assoc]
    rfl
theorem zd_sg_eq {f g : Nat → Nat} {i j : Nat} : ∀ k, (∀ a, a < k → f (i + a) = g (j + a)) → zd_sg f i k = zd_sg g j k := by
  intro k
  induction k with
  | zero => intro _; rfl
  | succ k ih =>
    intro h
    show f (i + k) :: zd_sg f i k = g (j + k) :: zd_sg g j k
    rw [h k (by omega), ih (fun a ha => h a (by omega))]
theorem zd_sg_sub (f : Nat → Nat) {i k s : Nat} (h : i + k ≤ s) : zd_sg f i k <:+: zd_sg f 0 s := by
  obtain ⟨m, rfl⟩ : ∃ m, s = i + k + m := ⟨s - (i + k), by omega⟩
  refine ⟨zd_sg f (i + k) m, zd_sg f 0 i, ?_⟩
  rw [zd_sg_add f 0 (i + k) m, zd_sg_add f 0 i k, Nat.zero_add, Nat.zero_add, List.append_assoc]
/-- a beginning of a stretch -/
theorem zd_sg_beg (f : Nat → Nat) (i : Nat) {k m : Nat} (h : k ≤ m) : zd_sg f i k <:+: zd_sg f i m := by
  obtain ⟨j, rfl⟩ : ∃ j, m = k + j := ⟨m - k, by omega⟩
  rw [zd_sg_add]
  exact List.infix_append_right
/-- an end of a stretch -/
theorem zd_sg_end (f : Nat → Nat) (i k : Nat) : zd_sg f (i + 1) k <:+: zd_sg f i (k + 1) := by
  rw [Nat.add_comm k 1, zd_sg_add f i 1 k]
  exact List.infix_append_left
theorem zd_Lex (w : List Nat) (f : Nat → Nat) (i m : Nat) : ∃ k, k ≤ m ∧ zd_sg f i k <:+: w ∧ (k < m → ¬ zd_sg f i (k + 1) <:+: w) := by
  induction m with
  | zero => exact ⟨0, Nat.le_refl 0, List.nil_infix, fun z => absurd z (by omega)⟩
  | succ m ih =>
    obtain ⟨k, h1, h2, h3⟩ := ih
    by_cases z : k < m
    · exact ⟨k, by omega, h2, fun _ => h3 z⟩
    · by_cases y : zd_sg f i (k + 1) <:+: w
      · exact ⟨k + 1, by omega, y, fun q => absurd q (by omega)⟩
      · exact ⟨k, by omega, h2, fun _ => y⟩
/-- the longest stretch of the target f (t letters) from i on that occurs in w -/
noncomputable def zd_L (w : List Nat) (f : Nat → Nat) (t i : Nat) : Nat := Classical.choose (zd_Lex w f i (t - i))
theorem zd_L1 (w : List Nat) (f : Nat → Nat) (t i : Nat) : zd_L w f t i ≤ t - i := (Classical.choose_spec (zd_Lex w f i (t - i))).1
theorem zd_L2 (w : List Nat) (f : Nat → Nat) (t i : Nat) : zd_sg f i (zd_L w f t i) <:+: w := (Classical.choose_spec (zd_Lex w f i (t - i))).2.1
theorem zd_L3 (w : List Nat) (f : Nat → Nat) (t i : Nat) : zd_L w f t i < t - i → ¬ zd_sg f i (zd_L w f t i + 1) <:+: w := (Classical.choose_spec (zd_Lex w f i (t - i))).2.2
theorem zd_L4 {w : List Nat} {f : Nat → Nat} {t i k : Nat} (h : k ≤ t - i) (hk : zd_sg f i k <:+: w) : k ≤ zd_L w f t i := by
  rcases Nat.lt_or_ge (zd_L w f t i) k with z | z
  · exact absurd ((zd_sg_beg f i (show zd_L w f t i + 1 ≤ k by omega)).trans hk) (zd_L3 w f t i (by omega))
  · exact z
theorem zd_L5 (w : List Nat) (f : Nat → Nat) (t i : Nat) : zd_L w f t i ≤ zd_L w f t (i + 1) + 1 := by
  have h1 := zd_L1 w f t i
  have h2 := zd_L2 w f t i
  rcases Nat.eq_zero_or_pos (zd_L w f t i) with z | z
  · omega
  · obtain ⟨k, hk⟩ : ∃ k, zd_L w f t i = k + 1 := ⟨zd_L w f t i - 1, by omega⟩
    rw [hk] at h1 h2 ⊢
    have := zd_L4 (w := w) (f := f) (t := t) (i := i + 1) (k := k) (by omega) ((zd_sg_end f i k).trans h2)
    omega
/-- where the piece from i on ends -/
noncomputable def zd_N (w : List Nat) (f : Nat → Nat) (t i : Nat) : Nat := i + (if zd_L w f t i = 0 then 1 else zd_L w f t i)
theorem zd_N1 {w : List Nat} {f : Nat → Nat} {t i : Nat} (h : i < t) : i < zd_N w f t i ∧ zd_N w f t i ≤ t := by
  have h1 := zd_L1 w f t i
  unfold zd_N
  by_cases z : zd_L w f t i = 0
  · rw [if_pos z]
    omega
  · rw [if_neg z]
    omega
theorem zd_N2 (w : List Nat) (f : Nat → Nat) (t i : Nat) : zd_N w f t i ≤ zd_N w f t (i + 1) := by
  have h1 := zd_L5 w f t i
  unfold zd_N
  by_cases z : zd_L w f t i = 0
  · rw [if_pos z]
    omega
  · rw [if_neg z]
    by_cases y : zd_L w f t (i + 1) = 0
    · rw [if_pos y]
      omega
    · rw [if_neg y]
      omega
theorem zd_N3 (w : List Nat) (f : Nat → Nat) (t i : Nat) {j : Nat} (h : i ≤ j) : zd_N w f t i ≤ zd_N w f t j := by
  obtain ⟨k, rfl⟩ : ∃ k, j = i + k := ⟨j - i, by omega⟩
  clear h
  induction k with
  | zero => exact Nat.le_refl _
  | succ k ih => exact Nat.le_trans ih (zd_N2 w f t (i + k))
/-! pieces, for any road N -/
/-- how many steps of N lead from i to t, f of them at most -/
def zd_Cf (N : Nat → Nat) (t : Nat) : Nat → Nat → Nat
  | 0, _ => 0
  | f + 1, i => if i < t then zd_Cf N t f (N i) + 1 else 0
def zd_C (N : Nat → Nat) (t i : Nat) : Nat := zd_Cf N t (t - i) i
/-- where piece p begins -/
def zd_P (N : Nat → Nat) : Nat → Nat
  | 0 => 0
  | p + 1 => N (zd_P N p)
section
variable {N : Nat → Nat} {t : Nat}
theorem zd_Cf_fu (h1 : ∀ i, i < t → i < N i ∧ N i ≤ t) : ∀ f i, t - i ≤ f → zd_Cf N t (f + 1) i = zd_Cf N t f i := by
  intro f
  induction f with
  | zero =>
    intro i hi
    show (if i < t then zd_Cf N t 0 (N i) + 1 else 0) = 0
    rw [if_neg (by omega)]
  | succ f ih =>
    intro i hi
    show (if i < t then zd_Cf N t (f + 1) (N i) + 1 else 0) = (if i < t then zd_Cf N t f (N i) + 1 else 0)
    by_cases z : i < t
    · have := h1 i z
      rw [if_pos z, if_pos z, ih (N i) (by omega)]
    · rw [if_neg z, if_neg z]
theorem zd_Cf_eq (h1 : ∀ i, i < t → i < N i ∧ N i ≤ t) {f i : Nat} (h : t - i ≤ f) : zd_Cf N t f i = zd_C N t i := by
  obtain ⟨k, rfl⟩ : ∃ k, f = t - i + k := ⟨f - (t - i), by omega⟩
  clear h
  induction k with
  | zero => rfl
  | succ k ih => exact (zd_Cf_fu h1 (t - i + k) i (by omega)).trans ih
theorem zd_C0 {i : Nat} (h : t ≤ i) : zd_C N t i = 0 := by
  unfold zd_C
  rw [show t - i = 0 by omega]
  rfl
theorem zd_C1 (h1 : ∀ i, i < t → i < N i ∧ N i ≤ t) {i : Nat} (h : i < t) : zd_C N t i = zd_C N t (N i) + 1 := by
  have k := h1 i h
  rw [← zd_Cf_eq h1 (f := t - i - 1) (i := N i) (by omega)]
  unfold zd_C
  obtain ⟨m, hm⟩ : ∃ m, t - i = m + 1 := ⟨t - i - 1, by omega⟩
  rw [hm, Nat.add_sub_cancel]
  show (if i < t then zd_Cf N t m (N i) + 1 else 0) = _
  rw [if_pos h]
theorem zd_Cf_le : ∀ f i, zd_Cf N t f i ≤ f := by
  intro f
  induction f with
  | zero => intro i; exact Nat.le_refl 0
  | succ f ih =>
    intro i
    show (if i < t then zd_Cf N t f (N i) + 1 else 0) ≤ f + 1
    by_cases z : i < t
    · rw [if_pos z]
      have := ih (N i)
      omega
    · rw [if_neg z]
      omega
theorem zd_C_le (i : Nat) : zd_C N t i ≤ t - i := zd_Cf_le (t - i) i
theorem zd_Cf_mono (h1 : ∀ i, i < t → i < N i ∧ N i ≤ t) (h2 : ∀ i j, i ≤ j → N i ≤ N j) : ∀ f i j, i ≤ j → zd_Cf N t f j ≤ zd_Cf N t f i := by
  intro f
  induction f with
  | zero => intro i j _; exact Nat.le_refl 0
  | succ f ih =>
    intro i j h
    show (if j < t then zd_Cf N t f (N j) + 1 else 0) ≤ (if i < t then zd_Cf N t f (N i) + 1 else 0)
    by_cases z : j < t
    · rw [if_pos z, if_pos (by omega)]
      have := ih (N i) (N j) (h2 i j h)
      omega
    · rw [if_neg z]
      exact Nat.zero_le _
theorem zd_C_mono (h1 : ∀ i, i < t → i < N i ∧ N i ≤ t) (h2 : ∀ i j, i ≤ j → N i ≤ N j) {i j : Nat} (h : i ≤ j) : zd_C N t j ≤ zd_C N t i := by
  rw [← zd_Cf_eq h1 (f := t) (i := j) (by omega), ← zd_Cf_eq h1 (f := t) (i := i) (by omega)]
  exact zd_Cf_mono h1 h2 t i j h
theorem zd_Pc (h1 : ∀ i, i < t → i < N i ∧ N i ≤ t) : ∀ p, p ≤ zd_C N t 0 → zd_P N p ≤ t ∧ zd_C N t (zd_P N p) + p = zd_C N t 0 ∧ (p < zd_C N t 0 → zd_P N p < t) := by
  intro p
  have fin : ∀ p, zd_P N p ≤ t → zd_C N t (zd_P N p) + p = zd_C N t 0 → p < zd_C N t 0 → zd_P N p < t := by
    intro p _ b c
    rcases Nat.lt_or_ge (zd_P N p) t with z | z
    · exact z
    · rw [zd_C0 z] at b
      omega
  induction p with
  | zero => intro _; exact ⟨Nat.zero_le _, rfl, fin 0 (Nat.zero_le _) rfl⟩
  | succ p ih =>
    intro hp
    obtain ⟨a, b, c⟩ := ih (by omega)
    have c' := c (by omega)
    have d := zd_C1 h1 c'
    have e : zd_P N (p + 1) ≤ t := (h1 _ c').2
    have g : zd_C N t (zd_P N (p + 1)) + (p + 1) = zd_C N t 0 := by
      show zd_C N t (N (zd_P N p)) + (p + 1) = zd_C N t 0
      omega
    exact ⟨e, g, fin (p + 1) e g⟩
theorem zd_PK (h1 : ∀ i, i < t → i < N i ∧ N i ≤ t) : zd_P N (zd_C N t 0) = t := by
  obtain ⟨a, b, _⟩ := zd_Pc h1 _ (Nat.le_refl (zd_C N t 0))
  rcases Nat.lt_or_ge (zd_P N (zd_C N t 0)) t with z | z
  · have := zd_C1 h1 z
    omega
  · omega
end
end
section
def zd_sm (f : Nat → Nat) : Nat → Nat
  | 0 => 0
  | n + 1 => zd_sm f n + f n
theorem zd_sm_eq {f g : Nat → Nat} : ∀ n, (∀ i, i < n → f i = g i) → zd_sm f n = zd_sm g n := by
  intro n
  induction n with
  | zero => intro _; rfl
  | succ n ih =>
    intro h
    show zd_sm f n + f n = zd_sm g n + g n
    rw [ih (fun i hi => h i (by omega)), h n (by omega)]
theorem zd_sm_add (f g : Nat → Nat) (n : Nat) : zd_sm (fun i => f i + g i) n = zd_sm f n + zd_sm g n := by
  induction n with
  | zero => rfl
  | succ n ih =>
    show zd_sm (fun i => f i + g i) n + (f n + g n) = (zd_sm f n + f n) + (zd_sm g n + g n)
    omega
theorem zd_sm_zero (n : Nat) : zd_sm (fun _ => 0) n = 0 := by
  induction n with
  | zero => rfl
  | succ n ih =>
    show zd_sm (fun _ => 0) n + 0 = 0
    omega
theorem zd_sm_swap (f : Nat → Nat → Nat) (n m : Nat) : zd_sm (fun k => zd_sm (fun i => f i k) n) m = zd_sm (fun i => zd_sm (fun k => f i k) m) n := by
  induction m with
  | zero => exact (zd_sm_zero n).symm
  | succ m ih =>
    show zd_sm (fun k => zd_sm (fun i => f i k) n) m + zd_sm (fun i => f i m) n = zd_sm (fun i => zd_sm (fun k => f i k) m + f i m) n
    rw [zd_sm_add, ih]
theorem zd_sm_le {f : Nat → Nat} {n i : Nat} (h : i < n) : f i ≤ zd_sm f n := by
  induction n with
  | zero => omega
  | succ n ih =>
    show f i ≤ zd_sm f n + f n
    by_cases e : i = n
    · rw [e]
      omega
    · have := ih (by omega)
      omega
theorem zd_sm_bd {f : Nat → Nat} : ∀ n, (∀ i, i < n → f i ≤ 1) → zd_sm f n ≤ n := by
  intro n
  induction n with
  | zero => intro _; exact Nat.le_refl 0
  | succ n ih =>
    intro h
    show zd_sm f n + f n ≤ n + 1
    have := ih (fun i hi => h i (by omega))
    have := h n (by omega)
    omega
theorem zd_sm_one {f g : Nat → Nat} {j : Nat} : ∀ n, j < n → (∀ i, i < n → i ≠ j → g i = f i) → zd_sm g n + f j = zd_sm f n + g j := by
  intro n
  induction n with
  | zero => intro h _; omega
  | succ n ih =>
    intro h k
    show zd_sm g n + g n + f j = zd_sm f n + f n + g j
    by_cases e : j = n
    · have := zd_sm_eq (f := g) (g := f) n (fun i hi => k i (by omega) (by omega))
      rw [e]
      omega
    · have := ih (by omega) (fun i hi hj => k i (by omega) hj)
      have := k n (by omega) (fun z => e z.symm)
      omega
theorem zd_sm_two {f g : Nat → Nat} {j l n : Nat} (hj : j < n) (hl : l < n) (hjl : j ≠ l) (k : ∀ i, i < n → i ≠ j → i ≠ l → g i = f i) : zd_sm g n + f j + f l = zd_sm f n + g j + g l := by
  have a := zd_sm_one (f := f) (g := fun i => if i = j then g j else f i) (j := j) n hj (fun i _ h => if_neg h)
  have b := zd_sm_one (f := fun i => if i = j then g j else f i) (g := g) (j := l) n hl (fun i hi h => by
    show g i = if i = j then g j else f i
    by_cases e : i = j
    · rw [if_pos e, e]
    · rw [if_neg e]
      exact k i hi e h)
  rw [if_pos rfl] at a
  rw [if_neg (fun z => hjl z.symm)] at b
  omega
/-- how many k of 0 .. m - 1 lie above a, not above b -/
theorem zd_sm_iv (a b : Nat) : ∀ m, zd_sm (fun k => if a < k ∧ k ≤ b then 1 else 0) (m + 1) = min b m - a := by
  intro m
  induction m with
  | zero =>
    show 0 + (if a < 0 ∧ 0 ≤ b then 1 else 0) = min b 0 - a
    rw [if_neg (by omega)]
    omega
  | succ m ih =>
    show zd_sm (fun k => if a < k ∧ k ≤ b then 1 else 0) (m + 1) + (if a < m + 1 ∧ m + 1 ≤ b then 1 else 0) = min b (m + 1) - a
    rw [ih]
    by_cases z : a < m + 1 ∧ m + 1 ≤ b
    · rw [if_pos z]
      omega
    · rw [if_neg z]
      omega
end
section
/-- an arrow in the array: -1 for none -/
def zd_cd (k : Nat) : Int32 := if k = 0 then -1 else nI k
theorem zd_cd0 : zd_cd 0 = -1 := rfl
theorem zd_cdn {k : Nat} (h : k ≠ 0) : zd_cd k = nI k := if_neg h
def zd_l3 (lk : Nat → Nat) (v : Nat) : Int32 := if v = 0 then -1 else nI (lk v)
/-- the array of arrows holds the table g of m states -/
def zd_A (m : Nat) (g : Nat → Nat → Nat) (a : Nat → Int32) : Prop := ∀ v d, v < m → d < 4 → a (v * 4 + d) = zd_cd (g v d)
/-- g' is g, but column c holds x on B -/
def zd_tb (m : Nat) (g g' : Nat → Nat → Nat) (c x : Nat) (B : Nat → Prop) : Prop := ∀ v d, v < m → d < 4 → (d = c ∧ B v → g' v d = x) ∧ (¬ (d = c ∧ B v) → g' v d = g v d)
theorem zd_tb_cg {m c x : Nat} {g g' : Nat → Nat → Nat} {B B' : Nat → Prop} (h : zd_tb m g g' c x B) (e : ∀ v, v < m → (B v ↔ B' v)) : zd_tb m g g' c x B' :=
  fun v d hv hd => ⟨fun z => (h v d hv hd).1 ⟨z.1, (e v hv).mpr z.2⟩, fun z => (h v d hv hd).2 (fun y => z ⟨y.1, (e v hv).mp y.2⟩)⟩
theorem zd_tb_0 {m c x : Nat} {g : Nat → Nat → Nat} {B : Nat → Prop} (h : ∀ v, v < m → ¬ B v) : zd_tb m g g c x B :=
  fun v d hv hd => ⟨fun z => absurd z.2 (h v hv), fun _ => rfl⟩
theorem zd_up {m p c x : Nat} {g g' : Nat → Nat → Nat} {B B' : Nat → Prop} {a : Nat → Int32} {xv : Int32} (hp : p < m) (hc : c < 4) (hA : zd_A m g' a) (hT : zd_tb m g g' c x B) (hx : xv = zd_cd x) (e : ∀ v, v < m → (B' v ↔ B v ∨ v = p)) :
    ∃ k, zd_A m k (upd a (p * 4 + c) xv) ∧ zd_tb m g k c x B' := by
  refine ⟨fun v d => if v = p ∧ d = c then x else g' v d, ?_, ?_⟩
  · intro v d hv hd
    show upd a (p * 4 + c) xv (v * 4 + d) = zd_cd (if v = p ∧ d = c then x else g' v d)
    by_cases z : v = p ∧ d = c
    · rw [if_pos z, z.1, z.2, pk_us, hx]
    · rw [if_neg z, pk_un (fun y => z (by omega))]
      exact hA v d hv hd
  · intro v d hv hd
    show (d = c ∧ B' v → (if v = p ∧ d = c then x else g' v d) = x) ∧ (¬ (d = c ∧ B' v) → (if v = p ∧ d = c then x else g' v d) = g v d)
    constructor
    · intro z
      by_cases y : v = p ∧ d = c
      · rw [if_pos y]
      · rw [if_neg y]
        rcases (e v hv).mp z.2 with b | b
        · exact (hT v d hv hd).1 ⟨z.1, b⟩
        · exact absurd ⟨b, z.1⟩ y
    · intro z
      rw [if_neg (fun y => z ⟨y.2, (e v hv).mpr (Or.inr y.1)⟩)]
      exact (hT v d hv hd).2 (fun y => z ⟨y.1, (e v hv).mpr (Or.inl y.2)⟩)
theorem zw_ix (p c : Nat) : nI p * 4 + nI c = nI (p * 4 + c) := by
  rw [show (4 : Int32) = nI 4 from rfl, pk_mul, nI_add]
theorem zw_ixc {p c : Nat} (hp : p < 65) (hc : c < 4) : (nI p * 4 + nI c).toNatClampNeg = p * 4 + c := by
  rw [zw_ix]
  exact nI_clamp (by omega)
theorem zw_new {post : Int32 → St1 → Prop} {fs ft wh ct sa p0 : Int32} {a1 a2 a3 a4 a5 a6 a7 a8 a9 a10 : Nat → Int32} {n : Nat} (hn : n < 65)
    (H : ∀ b5 : Nat → Int32, (∀ j, j < n * 4 → b5 j = a5 j) → (∀ d, d < 4 → b5 (n * 4 + d) = -1) → post (nI n) (fs, ft, nI (n + 1), wh, 0, sa, a1, upd a2 n p0, a3, a4, b5, upd a6 n 0, a7, a8, a9, a10)) :
    wpX_newState post (fs, ft, nI n, wh, ct, sa, a1, a2, a3, a4, a5, a6, a7, a8, a9, a10) p0 := by
  have e1 : (nI n).toNatClampNeg = n := nI_clamp (by omega)
  unfold wpX_newState
  dsimp only
  rw [e1]
  refine nm_r (nI_1 n) ⟨pk_in n 65 hn, nm_e ⟨pk_in n 65 hn, nm_e ?_⟩⟩
  exact pk_loop (fun f i s => wX_newState_31 post (nI n) fs ft (nI (n + 1)) wh ct sa f (nI i) a1 (upd a2 n p0) a3 a4 s (upd a6 n 0) a7 a8 a9 a10)
    (fun i s => (∀ j, j < n * 4 → s j = a5 j) ∧ ∀ d, d < i → s (n * 4 + d) = -1) 4 0 a5 (by omega) ⟨fun _ _ => rfl, fun d hd => absurd hd (by omega)⟩
    (fun f s h => pk_le 4 4 (fun _ => H s h.1 h.2) (fun z => absurd z (by omega)))
    (fun f i s hi h hw => pk_le 4 i (fun z => absurd z (by omega)) (fun _ => ⟨pk_in (n * 4 + i) 260 (by omega) (zw_ix n i), nm_r (e' := upd s (n * 4 + i) (-1)) (by rw [zw_ixc hn hi]) (nm_r (nI_1 i) (hw _ ⟨fun j hj => by rw [pk_un (by omega)]; exact h.1 j hj, fun d hd => by
      by_cases y : d = i
      · rw [y, pk_us]
      · rw [pk_un (by omega)]
        exact h.2 d (by omega)⟩))⟩))
section
variable {n h : Nat} {w : List Nat} {W : Nat → List Nat} {lk : Nat → Nat} {nx : Nat → Nat → Nat}
theorem zw_g54 {post : St1 → Prop} {fs ft fst fwh ct sa : Int32} {a1 a2 a3 a4 a6 a7 a8 a9 a10 : Nat → Int32} {c : Nat} {g0 : Nat → Nat → Nat}
    (I : zd_I n h w W lk nx) (hn : n < 65) (hw : w.length ≤ 32) (hc : c < 4) (h3 : ∀ v, v < n → a3 v = zd_l3 lk v) (hg : ∀ v d, v < n → g0 v d = nx v d)
    (HA : ∀ (b5 : Nat → Int32) (g : Nat → Nat → Nat), zd_A (n + 1) g b5 → zd_tb (n + 1) g0 g c n (fun v => v < n ∧ W v <+: w ∧ nx v c = 0) → (∀ y, y <+: w → ¬ (c :: y) <:+: w) → wX_grow_102 post (nI c) (nI n) (-1) fs ft fst fwh ct sa a1 a2 a3 a4 b5 a6 a7 a8 a9 a10)
    (HB : ∀ (b5 : Nat → Int32) (g : Nat → Nat → Nat) (p : Nat), zd_A (n + 1) g b5 → zd_tb (n + 1) g0 g c n (fun v => v < n ∧ W v <+: w ∧ nx v c = 0) → p < n → W p <+: w → (∀ y, y <+: w → (W p).length < y.length → ¬ (c :: y) <:+: w) → nx p c ≠ 0 → wX_grow_102 post (nI c) (nI n) (nI p) fs ft fst fwh ct sa a1 a2 a3 a4 b5 a6 a7 a8 a9 a10) :
    ∀ (f p i : Nat) (b5 : Nat → Int32) (g : Nat → Nat → Nat), (W p).length + 2 ≤ f → p < n → W p <+: w → i + (W p).length ≤ w.length → (∀ y, y <+: w → (W p).length < y.length → ¬ (c :: y) <:+: w) → zd_A (n + 1) g b5 → zd_tb (n + 1) g0 g c n (fun v => v < n ∧ W v <+: w ∧ (W p).length < (W v).length) →
      wX_grow_54 post (nI c) (nI n) fs ft fst fwh ct sa f (nI p) (nI i) a1 a2 a3 a4 b5 a6 a7 a8 a9 a10 := by
  intro f
  induction f with
  | zero => intro p i b5 g hf; omega
  | succ f ih =>
    intro p i b5 g hf hp hpw hi hb hA hT
    have e1 := zw_ixc (p := p) (c := c) (by omega) hc
    have e2 : g p c = nx p c := by
      rw [(hT p c (by omega) hc).2 (fun z => by have := z.2.2.2; omega), hg p c hp]
    have e3 : b5 (p * 4 + c) = zd_cd (nx p c) := by rw [hA p c (by omega) hc, e2]
    have e4 : (nI p).toNatClampNeg = p := nI_clamp (by omega)
    refine pk_le 65 i (fun z => absurd z (by omega)) (fun _ => pk_lt p 0 (fun z => absurd z (by omega)) (fun _ => ⟨pk_in (p * 4 + c) 260 (by omega) (zw_ix p c), ?_⟩))
    rw [e1, e3, e4]
    by_cases z : nx p c = 0
    · have hb' := zd_walk I hp hc hpw hb z
      rw [z, zd_cd0]
      refine br_f (by decide) ⟨pk_in (p * 4 + c) 260 (by omega) (zw_ix p c), nm_e ⟨pk_in p 65 (by omega), ?_⟩⟩
      rw [h3 p hp]
      by_cases p0 : p = 0
      · obtain ⟨k, k1, k2⟩ := zd_up (B' := fun v => v < n ∧ W v <+: w ∧ nx v c = 0) (p := p) (xv := nI n) (by omega) hc hA hT (zd_cdn (by omega)).symm (by
          intro v hv
          constructor
          · intro y
            rcases Nat.lt_or_ge (W p).length (W v).length with q | q
            · exact Or.inl ⟨y.1, y.2.1, q⟩
            · exact Or.inr (zd_only I hp y.1 hpw y.2.1 (by rw [p0, zd_mn0]; exact Nat.zero_le _) q)
          · intro y
            rcases y with y | y
            · refine ⟨y.1, y.2.1, ?_⟩
              by_cases q : nx v c = 0
              · exact q
              · exact absurd (zd_in I y.1 hc q) (hb _ y.2.1 y.2.2)
            · rw [y]
              exact ⟨hp, hpw, z⟩)
        rw [show zd_l3 lk p = -1 from if_pos p0]
        refine nm_e (nm_r (nI_1 i) ?_)
        obtain ⟨f', rfl⟩ : ∃ f', f = f' + 1 := ⟨f - 1, by omega⟩
        exact pk_le 65 (i + 1) (fun z => absurd z (by omega)) (fun _ => br_t (by decide) (HA _ k k1 k2 (fun y hy => hb' y hy (by rw [p0, zd_mn0]; exact Nat.zero_le _))))
      · obtain ⟨b1, b2, b3⟩ := zd_b I hp p0
        have m1 := zd_mn1 W lk p0
        obtain ⟨k, k1, k2⟩ := zd_up (B' := fun v => v < n ∧ W v <+: w ∧ (W (lk p)).length < (W v).length) (p := p) (xv := nI n) (by omega) hc hA hT (zd_cdn (by omega)).symm (by
          intro v hv
          constructor
          · intro y
            rcases Nat.lt_or_ge (W p).length (W v).length with q | q
            · exact Or.inl ⟨y.1, y.2.1, q⟩
            · exact Or.inr (zd_only I hp y.1 hpw y.2.1 (by rw [m1]; exact y.2.2) q)
          · intro y
            rcases y with y | y
            · exact ⟨y.1, y.2.1, Nat.lt_trans b3 y.2.2⟩
            · rw [y]
              exact ⟨hp, hpw, b3⟩)
        rw [show zd_l3 lk p = nI (lk p) from if_neg p0]
        exact nm_e (nm_r (nI_1 i) (ih (lk p) (i + 1) _ k (by omega) b1 (b2.trans hpw) (by omega) (fun y hy hl => hb' y hy (by rw [m1]; exact hl)) k1 k2))
    · obtain ⟨d1, _, _⟩ := zd_d I hp hc z
      refine br_t (by rw [zd_cdn z]; exact nI_pos' (by omega)) (HB b5 g p hA (zd_tb_cg hT (fun v hv => ?_)) hp hpw hb z)
      constructor
      · intro y
        refine ⟨y.1, y.2.1, ?_⟩
        by_cases q : nx v c = 0
        · exact q
        · exact absurd (zd_in I y.1 hc q) (hb _ y.2.1 y.2.2)
      · intro y
        refine ⟨y.1, y.2.1, ?_⟩
        rcases Nat.lt_or_ge (W p).length (W v).length with q | q
        · exact q
        · exact absurd y.2.2 (zd_e I y.1 hc (zd_own I y.1) (((List.prefix_cons_inj c).mpr (List.prefix_of_prefix_length_le y.2.1 hpw q)).isInfix.trans (zd_in I hp hc z)))
theorem zw_s100 {post : Int32 → St1 → Prop} {fs ft fst fwh ct sa : Int32} {a1 a2 b3 a4 a6 a7 a8 a9 a10 : Nat → Int32} {c p q : Nat} {gT : Nat → Nat → Nat}
    (I : zd_I n h w W lk nx) (hn : n + 2 ≤ 65) (hc : c < 4) (hp : p < n) (hq : nx p c = q) (hq0 : q ≠ 0) (hlt : (W p).length < (W q).length) (h3 : ∀ v, v < n → v ≠ q → b3 v = zd_l3 lk v) (hg : ∀ v, v < n → W v <+: W p → gT v c = nx v c)
    (H : ∀ (b5 : Nat → Int32) (g : Nat → Nat → Nat), zd_A (n + 2) g b5 → zd_tb (n + 2) gT g c (n + 1) (fun v => v < n ∧ W v <+: W p ∧ nx v c = q) → post (nI (n + 1)) (fs, ft, fst, fwh, ct, sa, a1, a2, b3, a4, b5, a6, a7, a8, a9, a10)) :
    ∀ (f y i : Nat) (b5 : Nat → Int32) (g : Nat → Nat → Nat), (W y).length + 2 ≤ f → y < n → W y <+: W p → i + (W y).length ≤ 32 → zd_A (n + 2) g b5 → zd_tb (n + 2) gT g c (n + 1) (fun v => v < n ∧ W v <+: W p ∧ (W y).length < (W v).length ∧ nx v c = q) →
      wX_split_100 post (nI q) (nI c) (nI (n + 1)) fs ft fst fwh ct sa f (nI y) (nI i) a1 a2 b3 a4 b5 a6 a7 a8 a9 a10 := by
  have hp0 : nx p c ≠ 0 := by rw [hq]; exact hq0
  obtain ⟨hqn, hpq, _⟩ := zd_d I hp hc hp0
  rw [hq] at hqn hpq
  intro f
  induction f with
  | zero => intro y i b5 g hf; omega
  | succ f ih =>
    intro y i b5 g hf hy hyp hi hA hT
    have ly := hyp.length_le
    have yq : y ≠ q := fun z => by rw [z] at ly; omega
    have e1 := zw_ixc (p := y) (c := c) (by omega) hc
    have e2 : g y c = nx y c := by
      rw [(hT y c (by omega) hc).2 (fun z => by have := z.2.2.2.1; omega), hg y hy hyp]
    have y0 : nx y c ≠ 0 := zd_e I hy hc (zd_own I hy) (((List.prefix_cons_inj c).mpr hyp).isInfix.trans (zd_in I hp hc hp0))
    obtain ⟨d1, d2, d3⟩ := zd_d I hy hc y0
    have e3 : b5 (y * 4 + c) = nI (nx y c) := by rw [hA y c (by omega) hc, e2, zd_cdn y0]
    have e4 : (nI y).toNatClampNeg = y := nI_clamp (by omega)
    refine pk_le 65 i (fun z => absurd z (by omega)) (fun _ => pk_lt y 0 (fun z => absurd z (by omega)) (fun _ => ⟨pk_in (y * 4 + c) 260 (by omega) (zw_ix y c), ?_⟩))
    rw [e1, e3, e4]
    refine pk_eq (nx y c) q (fun z => ⟨pk_in (y * 4 + c) 260 (by omega) (zw_ix y c), nm_e ⟨pk_in y 65 (by omega), ?_⟩⟩) (fun z => H b5 g hA (zd_tb_cg hT (fun v hv => ?_)))
    · rw [h3 y hy yq]
      by_cases p0 : y = 0
      · obtain ⟨k, k1, k2⟩ := zd_up (B' := fun v => v < n ∧ W v <+: W p ∧ nx v c = q) (p := y) (xv := nI (n + 1)) (by omega) hc hA hT (zd_cdn (by omega)).symm (by
          intro v hv
          constructor
          · intro x
            rcases Nat.lt_or_ge (W y).length (W v).length with u | u
            · exact Or.inl ⟨x.1, x.2.1, u, x.2.2⟩
            · exact Or.inr (zd_only I hy x.1 hyp x.2.1 (by rw [p0, zd_mn0]; exact Nat.zero_le _) u)
          · intro x
            rcases x with x | x
            · exact ⟨x.1, x.2.1, x.2.2.2⟩
            · rw [x]
              exact ⟨hy, hyp, z⟩)
        rw [show zd_l3 lk y = -1 from if_pos p0]
        refine nm_e (nm_r (nI_1 i) ?_)
        obtain ⟨f', rfl⟩ : ∃ f', f = f' + 1 := ⟨f - 1, by omega⟩
        exact pk_le 65 (i + 1) (fun z => absurd z (by omega)) (fun _ => br_t (by decide) (H _ k k1 k2))
      · obtain ⟨b1, b2, b3'⟩ := zd_b I hy p0
        have m1 := zd_mn1 W lk p0
        obtain ⟨k, k1, k2⟩ := zd_up (B' := fun v => v < n ∧ W v <+: W p ∧ (W (lk y)).length < (W v).length ∧ nx v c = q) (p := y) (xv := nI (n + 1)) (by omega) hc hA hT (zd_cdn (by omega)).symm (by
          intro v hv
          constructor
          · intro x
            rcases Nat.lt_or_ge (W y).length (W v).length with u | u
            · exact Or.inl ⟨x.1, x.2.1, u, x.2.2.2⟩
            · exact Or.inr (zd_only I hy x.1 hyp x.2.1 (by rw [m1]; exact x.2.2.1) u)
          · intro x
            rcases x with x | x
            · exact ⟨x.1, x.2.1, Nat.lt_trans b3' x.2.2.1, x.2.2.2⟩
            · rw [x]
              exact ⟨hy, hyp, b3', z⟩)
        rw [show zd_l3 lk y = nI (lk y) from if_neg p0]
        exact nm_e (nm_r (nI_1 i) (ih (lk y) (i + 1) _ k (by omega) b1 (b2.trans hyp) (by omega) k1 k2))
    · constructor
      · intro x
        exact ⟨x.1, x.2.1, x.2.2.2⟩
      · intro x
        refine ⟨x.1, x.2.1, ?_, x.2.2⟩
        rcases Nat.lt_or_ge (W y).length (W v).length with u | u
        · exact u
        · exfalso
          have s1 := zd_step I x.1 hc (zd_own I x.1) (by rw [x.2.2]; exact hq0)
          rw [x.2.2] at s1
          have s2 := s1.2
          rw [List.length_cons] at s2
          exact z (zd_f I d1 hqn (zd_step I hy hc (zd_own I hy) y0) ⟨((List.prefix_cons_inj c).mpr hyp).trans hpq, by rw [List.length_cons]; omega⟩)
theorem zw_split {post : Int32 → St1 → Prop} {fs ft fwh ct sa : Int32} {a1 a2 a3 a4 a5 a6 a7 a8 a9 a10 : Nat → Int32} {c p q : Nat} {g0 g : Nat → Nat → Nat}
    (I : zd_I n h w W lk nx) (hn : n + 2 ≤ 65) (hw : w.length ≤ 32) (hc : c < 4) (hp : p < n) (hpw : W p <+: w) (hq : nx p c = q) (hq0 : q ≠ 0) (hlt : (W p).length < (W q).length)
    (h2 : a2 p = nI (W p).length) (h3 : ∀ v, v < n → a3 v = zd_l3 lk v) (hg : ∀ v d, v < n → g0 v d = nx v d) (hA : zd_A (n + 1) g a5) (hT : zd_tb (n + 1) g0 g c n (fun v => v < n ∧ W v <+: w ∧ nx v c = 0))
    (H : ∀ (b5 : Nat → Int32) (k : Nat → Nat → Nat), zd_A (n + 2) k b5 → zd_tb (n + 2) (fun v d => if v = n + 1 then g q d else g v d) k c (n + 1) (fun v => v < n ∧ W v <+: W p ∧ nx v c = q) →
      post (nI (n + 1)) (fs, ft, nI (n + 2), fwh, 0, sa, a1, upd a2 (n + 1) (nI ((W p).length + 1)), upd (upd a3 (n + 1) (a3 q)) q (nI (n + 1)), upd a4 (n + 1) (a4 q), b5, upd (upd a6 (n + 1) 0) (n + 1) 1, a7, a8, a9, a10)) :
    wpX_split post (fs, ft, nI (n + 1), fwh, ct, sa, a1, a2, a3, a4, a5, a6, a7, a8, a9, a10) (nI p) (nI q) (nI c) := by
  have hp0 : nx p c ≠ 0 := by rw [hq]; exact hq0
  obtain ⟨hqn, hpq, _⟩ := zd_d I hp hc hp0
  rw [hq] at hqn hpq
  have e1 : (nI p).toNatClampNeg = p := nI_clamp (by omega)
  have e2 : (nI q).toNatClampNeg = q := nI_clamp (by omega)
  have e3 : (nI (n + 1)).toNatClampNeg = n + 1 := nI_clamp (by omega)
  unfold wpX_split
  dsimp only
  rw [e1, h2, nI_1]
  refine ⟨pk_in p 65 (by omega), zw_new (n := n + 1) (by omega) (fun b5 hb1 hb2 => ?_)⟩
  dsimp only
  refine pk_loop (fun f i s => wX_split_17 post (nI p) (nI q) (nI c) (nI (n + 1)) fs ft (nI (n + 1 + 1)) fwh 0 sa f (nI i) a1 (upd a2 (n + 1) (nI ((W p).length + 1))) a3 a4 s (upd a6 (n + 1) 0) a7 a8 a9 a10)
    (fun i s => (∀ j, j < (n + 1) * 4 → s j = a5 j) ∧ ∀ d, d < i → s ((n + 1) * 4 + d) = zd_cd (g q d)) 4 0 b5 (by omega) ⟨hb1, fun d hd => absurd hd (by omega)⟩ ?_ ?_
  · intro f s hs
    refine pk_le 4 4 (fun _ => ?_) (fun z => absurd z (by omega))
    rw [e2, e3]
    refine ⟨pk_in (n + 1) 65 (by omega), nm_e ⟨pk_in q 65 (by omega), pk_in (n + 1) 65 (by omega), nm_e ⟨pk_in q 65 (by omega), pk_in (n + 1) 65 (by omega), nm_e ⟨pk_in q 65 (by omega), nm_e ?_⟩⟩⟩⟩
    have lw := hpw.length_le
    refine ⟨(W p).length + 2, zw_s100 I hn hc hp hq hq0 hlt (gT := fun v d => if v = n + 1 then g q d else g v d) ?_ ?_ (fun b k k1 k2 => H b k k1 k2) _ p 0 s (fun v d => if v = n + 1 then g q d else g v d) (Nat.le_refl _) hp List.prefix_rfl (by omega) ?_ ?_⟩
    · intro v hv hvq
      rw [pk_un hvq, pk_un (by omega)]
      exact h3 v hv
    · intro v hv hvp
      show (if v = n + 1 then g q c else g v c) = nx v c
      have v0 : nx v c ≠ 0 := zd_e I hv hc (zd_own I hv) (((List.prefix_cons_inj c).mpr hvp).isInfix.trans (zd_in I hp hc hp0))
      rw [if_neg (by omega), (hT v c (by omega) hc).2 (fun z => v0 z.2.2.2), hg v c hv]
    · intro v d hv hd
      show s (v * 4 + d) = zd_cd (if v = n + 1 then g q d else g v d)
      by_cases e : v = n + 1
      · rw [if_pos e, e]
        exact hs.2 d hd
      · rw [if_neg e, hs.1 _ (by omega)]
        exact hA v d (by omega) hd
    · exact zd_tb_0 (fun v hv z => by have := z.2.1.length_le; have := z.2.2.1; omega)
  · intro f i s hi hs hk
    refine pk_le 4 i (fun z => absurd z (by omega)) (fun _ => ⟨pk_in (q * 4 + i) 260 (by omega) (zw_ix q i), pk_in ((n + 1) * 4 + i) 260 (by omega) (zw_ix (n + 1) i), nm_r (e' := upd s ((n + 1) * 4 + i) (zd_cd (g q i))) ?_ (nm_r (nI_1 i) (hk _ ⟨fun j hj => ?_, fun d hd => ?_⟩))⟩)
    · rw [zw_ixc (by omega) hi, zw_ixc (by omega) hi, hs.1 _ (by omega), hA q i (by omega) hi]
    · rw [pk_un (by omega)]
      exact hs.1 j hj
    · by_cases e : d = i
      · rw [e, pk_us]
      · rw [pk_un (by omega)]
        exact hs.2 d (by omega)
end
end
section
/-- the arrays hold the automaton of w -/
def zd_M (s : Nat) (w : List Nat) (fst fwh : Int32) (a2 a3 a5 a6 : Nat → Int32) : Prop :=
  ∃ (n h : Nat) (W : Nat → List Nat) (lk : Nat → Nat) (nx : Nat → Nat → Nat), n ≤ 2 * s + 1 ∧ fst = nI n ∧ fwh = nI h ∧ zd_I n h w W lk nx ∧
    (∀ v, v < n → a2 v = nI (W v).length ∧ a3 v = zd_l3 lk v) ∧ (∀ v, v < n → v ≠ 0 → a6 v ≠ 0 → ∃ u, u < n ∧ u ≠ 0 ∧ lk u = v) ∧ zd_A n nx a5
section
variable {n h : Nat} {w : List Nat} {W : Nat → List Nat} {lk : Nat → Nat} {nx : Nat → Nat → Nat}
theorem zd_mB {s c r : Nat} {a2 a3 a6 b5 : Nat → Int32} {g0 g : Nat → Nat → Nat} (I : zd_I n h w W lk nx) (hs : n ≤ 2 * s + 1) (hc : c < 4) (hr : r < n) (hrw : W r <+: c :: w) (hb : ∀ y, y <+: w → (W r).length ≤ y.length → ¬ (c :: y) <:+: w)
    (low : ∀ v, v < n → W v <+: w → nx v c = 0 → (W r).length ≤ zd_mn W lk v)
    (M1 : ∀ v, v < n → a2 v = nI (W v).length ∧ a3 v = zd_l3 lk v) (M2 : ∀ v, v < n → v ≠ 0 → a6 v ≠ 0 → ∃ u, u < n ∧ u ≠ 0 ∧ lk u = v)
    (hg : ∀ v d, v < n → g0 v d = nx v d) (hg' : ∀ d, d < 4 → g0 n d = 0) (hA : zd_A (n + 1) g b5) (hT : zd_tb (n + 1) g0 g c n (fun v => v < n ∧ W v <+: w ∧ nx v c = 0)) :
    zd_M (s + 1) (c :: w) (nI (n + 1)) (nI n) (upd a2 n (nI (w.length + 1))) (upd a3 n (nI r)) b5 (upd a6 n 0) := by
  have n0 : n ≠ 0 := by have := (zd_a I).1; omega
  refine ⟨n + 1, n, fun v => if v = n then c :: w else W v, fun v => if v = n then r else lk v, g, by omega, rfl, rfl, zd_cB I hc hr hrw hb low (fun v hv => if_neg (by omega)) (if_pos rfl) (fun v hv => if_neg (by omega)) (if_pos rfl) ?_ ?_ ?_, ?_, ?_, hA⟩
  · exact fun v hv h1 h2 => (hT v c (by omega) hc).1 ⟨rfl, hv, h1, h2⟩
  · intro v d hv hd hn
    rw [(hT v d (by omega) hd).2 (fun z => hn ⟨z.1, z.2.2.1, z.2.2.2⟩), hg v d hv]
  · intro d hd
    rw [(hT n d (by omega) hd).2 (fun z => by have := z.2.1; omega), hg' d hd]
  · intro v hv
    show upd a2 n (nI (w.length + 1)) v = nI (if v = n then c :: w else W v).length ∧ upd a3 n (nI r) v = zd_l3 (fun v => if v = n then r else lk v) v
    unfold zd_l3
    dsimp only
    by_cases e : v = n
    · rw [if_pos e, e, pk_us, pk_us, if_neg n0, if_pos rfl, List.length_cons]
      exact ⟨rfl, rfl⟩
    · rw [if_neg e, pk_un e, pk_un e, if_neg e]
      exact M1 v (by omega)
  · intro v hv v0 h6
    by_cases e : v = n
    · rw [e, pk_us] at h6
      exact absurd rfl h6
    · rw [pk_un e] at h6
      obtain ⟨u, u1, u2, u3⟩ := M2 v (by omega) v0 h6
      refine ⟨u, by omega, u2, ?_⟩
      show (if u = n then r else lk u) = v
      rw [if_neg (by omega), u3]
theorem zd_mC {s c p q : Nat} {a2 a3 a6 b5 : Nat → Int32} {g0 g k : Nat → Nat → Nat} (I : zd_I n h w W lk nx) (hs : n ≤ 2 * s + 1) (hc : c < 4) (hp : p < n) (hpw : W p <+: w) (hb : ∀ y, y <+: w → (W p).length < y.length → ¬ (c :: y) <:+: w)
    (hq : nx p c = q) (hq0 : q ≠ 0) (hqn : q < n) (hne : (W q).length ≠ (W p).length + 1)
    (M1 : ∀ v, v < n → a2 v = nI (W v).length ∧ a3 v = zd_l3 lk v) (M2 : ∀ v, v < n → v ≠ 0 → a6 v ≠ 0 → ∃ u, u < n ∧ u ≠ 0 ∧ lk u = v)
    (hg : ∀ v d, v < n → g0 v d = nx v d) (hg' : ∀ d, d < 4 → g0 n d = 0) (hT : zd_tb (n + 1) g0 g c n (fun v => v < n ∧ W v <+: w ∧ nx v c = 0))
    (hA : zd_A (n + 2) k b5) (hK : zd_tb (n + 2) (fun v d => if v = n + 1 then g q d else g v d) k c (n + 1) (fun v => v < n ∧ W v <+: W p ∧ nx v c = q)) :
    zd_M (s + 1) (c :: w) (nI (n + 2)) (nI n) (upd (upd a2 n (nI (w.length + 1))) (n + 1) (nI ((W p).length + 1))) (upd (upd (upd a3 (n + 1) (a3 q)) q (nI (n + 1))) n (nI (n + 1))) b5 (upd (upd (upd a6 n 0) (n + 1) 0) (n + 1) 1) := by
  have n0 : n ≠ 0 := by have := (zd_a I).1; omega
  have G : ∀ v d, v < n + 1 → d < 4 → ¬ (d = c ∧ v < n ∧ W v <+: W p ∧ nx v c = q) → k v d = g v d := by
    intro v d hv hd hn
    rw [(hK v d (by omega) hd).2 hn]
    show (if v = n + 1 then g q d else g v d) = g v d
    rw [if_neg (by omega)]
  have G1 : ∀ v, v < n → W v <+: w → nx v c = 0 → g v c = n := fun v hv h1 h2 => (hT v c (by omega) hc).1 ⟨rfl, hv, h1, h2⟩
  have G2 : ∀ v d, v < n → d < 4 → ¬ (d = c ∧ W v <+: w ∧ nx v c = 0) → g v d = nx v d := by
    intro v d hv hd hn
    rw [(hT v d (by omega) hd).2 (fun z => hn ⟨z.1, z.2.2.1, z.2.2.2⟩), hg v d hv]
  refine ⟨n + 2, n, fun v => if v = n then c :: w else if v = n + 1 then c :: W p else W v, fun v => if v = n then n + 1 else if v = n + 1 then lk q else if v = q then n + 1 else lk v, k, by omega, rfl, rfl, zd_cC I hc hp hpw hb hq hq0 hne ?_ (if_pos rfl) ?_ ?_ ?_ ?_ (if_pos rfl) ?_ ?_ ?_ ?_ ?_, ?_, ?_, hA⟩
  · intro v hv
    show (if v = n then c :: w else if v = n + 1 then c :: W p else W v) = W v
    rw [if_neg (by omega), if_neg (by omega)]
  · show (if n + 1 = n then c :: w else if n + 1 = n + 1 then c :: W p else W (n + 1)) = c :: W p
    rw [if_neg (by omega), if_pos rfl]
  · intro v hv hvq
    show (if v = n then n + 1 else if v = n + 1 then lk q else if v = q then n + 1 else lk v) = lk v
    rw [if_neg (by omega), if_neg (by omega), if_neg hvq]
  · show (if q = n then n + 1 else if q = n + 1 then lk q else if q = q then n + 1 else lk q) = n + 1
    rw [if_neg (by omega), if_neg (by omega), if_pos rfl]
  · show (if n + 1 = n then n + 1 else if n + 1 = n + 1 then lk q else if n + 1 = q then n + 1 else lk (n + 1)) = lk q
    rw [if_neg (by omega), if_pos rfl]
  · intro v hv h1 h2
    rw [G v c (by omega) hc (fun z => hq0 (z.2.2.2.symm.trans h2))]
    exact G1 v hv h1 h2
  · exact fun v hv h1 h2 => (hK v c (by omega) hc).1 ⟨rfl, hv, h1, h2⟩
  · intro v d hv hd h1 h2
    rw [G v d (by omega) hd (fun z => h2 ⟨z.1, z.2.2.1, z.2.2.2⟩)]
    exact G2 v d hv hd h1
  · intro d hd
    rw [G n d (by omega) hd (fun z => by have := z.2.1; omega), (hT n d (by omega) hd).2 (fun z => by have := z.2.1; omega), hg' d hd]
  · intro d hd
    have e : k (n + 1) d = g q d := by
      rw [(hK (n + 1) d (by omega) hd).2 (fun z => by have := z.2.1; omega)]
      show (if n + 1 = n + 1 then g q d else g (n + 1) d) = g q d
      rw [if_pos rfl]
    rw [e]
    exact ⟨fun z => by rw [z.1]; exact G1 q hqn z.2.1 z.2.2, fun z => G2 q d hqn hd z⟩
  · intro v hv
    show upd (upd a2 n (nI (w.length + 1))) (n + 1) (nI ((W p).length + 1)) v = nI (if v = n then c :: w else if v = n + 1 then c :: W p else W v).length ∧ upd (upd (upd a3 (n + 1) (a3 q)) q (nI (n + 1))) n (nI (n + 1)) v = zd_l3 (fun v => if v = n then n + 1 else if v = n + 1 then lk q else if v = q then n + 1 else lk v) v
    unfold zd_l3
    dsimp only
    by_cases e : v = n
    · rw [if_pos e, e, pk_un (by omega), pk_us, pk_us, if_neg n0, if_pos rfl, List.length_cons]
      exact ⟨rfl, rfl⟩
    · rw [if_neg e, if_neg e, pk_un (k := n) e]
      by_cases e2 : v = n + 1
      · rw [if_pos e2, if_pos e2, e2, pk_us, pk_un (k := q) (by omega), pk_us, if_neg (by omega), List.length_cons, (M1 q hqn).2]
        exact ⟨rfl, if_neg hq0⟩
      · rw [if_neg e2, if_neg e2, pk_un e2, pk_un (k := n) e]
        by_cases e3 : v = q
        · rw [if_pos e3, e3, pk_us, if_neg hq0]
          exact ⟨(M1 q hqn).1, rfl⟩
        · rw [if_neg e3, pk_un e3, pk_un e2]
          exact M1 v (by omega)
  · intro v hv v0 h6
    show ∃ u, u < n + 2 ∧ u ≠ 0 ∧ (if u = n then n + 1 else if u = n + 1 then lk q else if u = q then n + 1 else lk u) = v
    by_cases e2 : v = n + 1
    · exact ⟨n, by omega, n0, by rw [if_pos rfl, e2]⟩
    · rw [pk_un e2, pk_un e2] at h6
      by_cases e : v = n
      · rw [e, pk_us] at h6
        exact absurd rfl h6
      · rw [pk_un e] at h6
        obtain ⟨u, u1, u2, u3⟩ := M2 v (by omega) v0 h6
        by_cases uq : u = q
        · exact ⟨n + 1, by omega, by omega, by rw [if_neg (by omega), if_pos rfl, ← uq, u3]⟩
        · exact ⟨u, by omega, u2, by rw [if_neg (by omega), if_neg (by omega), if_neg uq, u3]⟩
end
theorem zw_grow {post : St1 → Prop} {s c : Nat} {w : List Nat} {fs ft fst fwh ct sa : Int32} {a1 a2 a3 a4 a5 a6 a7 a8 a9 a10 : Nat → Int32} (hs : s < 32) (hw : w.length = s) (hc : c < 4) (hfs : fs = nI s) (M : zd_M s w fst fwh a2 a3 a5 a6)
    (H : ∀ (gst gwh : Int32) (b2 b3 b4 b5 b6 : Nat → Int32), zd_M (s + 1) (c :: w) gst gwh b2 b3 b5 b6 → post (nI (s + 1), ft, gst, gwh, 0, sa, a1, b2, b3, b4, b5, b6, a7, a8, a9, upd a10 s (nI c))) :
    wpX_grow post (fs, ft, fst, fwh, ct, sa, a1, a2, a3, a4, a5, a6, a7, a8, a9, a10) (nI c) := by
  obtain ⟨n, h, W, lk, nx, hn, rfl, rfl, I, M1, M2, M3⟩ := M
  subst hfs
  obtain ⟨i1, i2, i3, i4⟩ := zd_a I
  have e1 : (nI h).toNatClampNeg = h := nI_clamp (by omega)
  have e2 : (nI n).toNatClampNeg = n := nI_clamp (by omega)
  have e3 : (nI s).toNatClampNeg = s := nI_clamp (by omega)
  have hg : ∀ v d, v < n → (fun v d => if v = n then 0 else nx v d) v d = nx v d := fun v d hv => if_neg (by omega)
  have hg' : ∀ d, d < 4 → (fun v d => if v = n then 0 else nx v d) n d = 0 := fun d hd => if_pos rfl
  unfold wpX_grow
  dsimp only
  rw [e1, (M1 h i3).1, i4, nI_1]
  refine ⟨pk_in h 65 (by omega), zw_new (n := n) (by omega) (fun b5 hb1 hb2 => ?_)⟩
  dsimp only
  rw [e2, e3]
  refine ⟨pk_in n 65 (by omega), nm_e ⟨pk_in s 32 hs, nm_e (nm_r (nI_1 s) ⟨w.length + 2, ?_⟩)⟩⟩
  refine zw_g54 I (by omega) (by omega) hc (fun v hv => (M1 v hv).2) hg ?_ ?_ (w.length + 2) h 0 b5 (fun v d => if v = n then 0 else nx v d) (by rw [i4]; exact Nat.le_refl _) i3 (by rw [i4]; exact List.prefix_rfl) (by rw [i4]; omega) ?_ ?_ ?_
  · intro c5 g hA hT hb
    unfold wX_grow_102
    refine br_f (by decide) ⟨pk_in n 65 (by omega), nm_r (e' := upd a3 n (nI 0)) (by rw [e2]; rfl) (H _ _ _ _ _ _ _ (zd_mB I hn hc i1 (by rw [i2]; exact List.nil_prefix) (fun y hy _ => hb y hy) (fun v hv _ _ => by rw [i2]; exact Nat.zero_le _) M1 M2 hg hg' hA hT))⟩
  · intro c5 g p hA hT hp hpw hb h0
    obtain ⟨d1, d2, d3⟩ := zd_d I hp hc h0
    have e4 : (nI p).toNatClampNeg = p := nI_clamp (by omega)
    have e5 : (nI (nx p c)).toNatClampNeg = nx p c := nI_clamp (by omega)
    have ld := d2.length_le
    rw [List.length_cons] at ld
    have lw := (zd_c I d1).length_le
    unfold wX_grow_102
    refine br_t (nI_pos' (by omega)) ⟨pk_in (p * 4 + c) 260 (by omega) (zw_ix p c), nm_r (e' := nI (nx p c)) ?_ ⟨pk_in (nx p c) 65 (by omega), pk_in p 65 (by omega), ?_⟩⟩
    · rw [zw_ixc (by omega) hc, hA p c (by omega) hc, (hT p c (by omega) hc).2 (fun z => h0 z.2.2.2), if_neg (show ¬ p = n by omega), zd_cdn h0]
    · rw [e4, e5, pk_un (j := p) (by omega), pk_un (j := nx p c) (by omega), (M1 p hp).1, (M1 _ d1).1]
      refine pk_eq (W (nx p c)).length ((W p).length + 1) (fun e => ⟨pk_in n 65 (by omega), nm_r (e' := upd a3 n (nI (nx p c))) (by rw [e2]) (H _ _ _ _ _ _ _ (zd_mB I hn hc d1 ?_ ?_ ?_ M1 M2 hg hg' hA hT))⟩) (fun e => ?_) rfl (nI_1 _)
      · rw [← d2.eq_of_length (by rw [List.length_cons]; omega)]
        exact (List.prefix_cons_inj c).mpr hpw
      · exact fun y hy hl => hb y hy (by omega)
      · intro v hv h1 h2
        have := zd_low I hp hc hpw h0 hv h1 h2
        omega
      · refine zw_split (g0 := fun v d => if v = n then 0 else nx v d) I (by omega) (by omega) hc hp hpw rfl h0 (by omega) (by rw [pk_un (by omega)]; exact (M1 p hp).1) (fun v hv => (M1 v hv).2) hg hA hT (fun b k k1 k2 => ?_)
        dsimp only
        rw [e2]
        exact ⟨pk_in n 65 (by omega), nm_e (H _ _ _ _ _ _ _ (zd_mC I hn hc hp hpw hb rfl h0 d1 e M1 M2 hg hg' hT k1 k2))⟩
  · intro y hy hl
    have := hy.length_le
    rw [i4] at hl
    omega
  · intro v d hv hd
    show b5 (v * 4 + d) = zd_cd (if v = n then 0 else nx v d)
    by_cases e : v = n
    · rw [if_pos e, e, hb2 d hd, zd_cd0]
    · rw [if_neg e, hb1 _ (by omega)]
      exact M3 v d (by omega) hd
  · refine zd_tb_0 (fun v hv z => ?_)
    have := z.2.1.length_le
    have := z.2.2
    rw [i4] at this
    omega
end
section
/-- the picture: s letters lt of the source, t letters tg of the target -/
def zd_S (s t : Nat) (lt tg : Nat → Nat) (fs ft fst fwh ct : Int32) (a1 a2 a3 a5 a6 a10 : Nat → Int32) : Prop :=
  s ≤ 32 ∧ t ≤ 24 ∧ fs = nI s ∧ ft = nI t ∧ ct = 0 ∧ (∀ i, i < s → lt i < 4 ∧ a10 i = nI (lt i)) ∧ (∀ i, i < t → tg i < 4 ∧ a1 i = nI (tg i)) ∧ zd_M s (zd_sg lt 0 s) fst fwh a2 a3 a5 a6
def zd_V (u : St1) : Prop := match u with
  | (fs, ft, fst, fwh, ct, _, a1, a2, a3, _, a5, a6, _, _, _, a10) => ∃ (s t : Nat) (lt tg : Nat → Nat), zd_S s t lt tg fs ft fst fwh ct a1 a2 a3 a5 a6 a10
theorem zw_reset {post : St1 → Prop} {fs ft fst fwh ct sa : Int32} {a1 a2 a3 a4 a5 a6 a7 a8 a9 a10 : Nat → Int32}
    (H : ∀ (gst gwh : Int32) (b2 b3 b5 b6 : Nat → Int32), zd_M 0 [] gst gwh b2 b3 b5 b6 → post (0, ft, gst, gwh, 0, sa, a1, b2, b3, a4, b5, b6, a7, a8, a9, a10)) :
    wpX_reset post (fs, ft, fst, fwh, ct, sa, a1, a2, a3, a4, a5, a6, a7, a8, a9, a10) := by
  unfold wpX_reset
  dsimp only
  refine zw_new (n := 0) (by omega) (fun b5 hb1 hb2 => ?_)
  dsimp only
  refine nm_e (H _ _ _ _ _ _ ⟨1, 0, fun _ => [], fun _ => 0, fun _ _ => 0, by omega, rfl, rfl, zd_I0 _ (fun _ _ => rfl), ?_, ?_, ?_⟩)
  · intro v hv
    have e : v = 0 := by omega
    rw [e, pk_us, pk_us]
    exact ⟨rfl, rfl⟩
  · intro v hv v0
    omega
  · intro v d hv hd
    have e : v = 0 := by omega
    rw [e]
    exact hb2 d hd
theorem zw_source {post : Int32 → St1 → Prop} {s t c : Nat} {lt tg : Nat → Nat} {fs ft fst fwh ct sa : Int32} {a1 a2 a3 a4 a5 a6 a7 a8 a9 a10 : Nat → Int32}
    (S : zd_S s t lt tg fs ft fst fwh ct a1 a2 a3 a5 a6 a10) (hc : c < 4) (H : ∀ r u, zd_V u → post r u) :
    wpX_source post (fs, ft, fst, fwh, ct, sa, a1, a2, a3, a4, a5, a6, a7, a8, a9, a10) (nI c) := by
  have S0 := S
  obtain ⟨hs, ht, rfl, rfl, rfl, h10, h1, M⟩ := S
  unfold wpX_source
  dsimp only
  unfold wpX_badLetter
  dsimp only
  refine pk_lt c 0 (fun z => absurd z (by omega)) (fun _ => pk_le c 3 (fun _ => br_t rfl (pk_eq s 32 (fun z => H _ _ ⟨s, t, lt, tg, S0⟩) (fun z => ?_))) (fun z => absurd z (by omega)))
  refine zw_grow (by omega) (zd_sg_len lt 0 s) hc rfl M (fun gst gwh b2 b3 b4 b5 b6 M' => ?_)
  refine H _ _ ⟨s + 1, t, fun i => if i = s then c else lt i, tg, by omega, ht, rfl, rfl, rfl, ?_, h1, ?_⟩
  · intro i hi
    show (if i = s then c else lt i) < 4 ∧ upd a10 s (nI c) i = nI (if i = s then c else lt i)
    by_cases e : i = s
    · rw [if_pos e, e, pk_us]
      exact ⟨hc, rfl⟩
    · rw [if_neg e, pk_un e]
      exact h10 i (by omega)
  · have e : zd_sg (fun i => if i = s then c else lt i) 0 (s + 1) = c :: zd_sg lt 0 s := by
      show (if 0 + s = s then c else lt (0 + s)) :: zd_sg (fun i => if i = s then c else lt i) 0 s = c :: zd_sg lt 0 s
      rw [if_pos (by omega), zd_sg_eq (g := lt) (j := 0) s (fun a ha => if_neg (by omega))]
    rw [e]
    exact M'
theorem zw_target {post : Int32 → St1 → Prop} {s t c : Nat} {lt tg : Nat → Nat} {fs ft fst fwh ct sa : Int32} {a1 a2 a3 a4 a5 a6 a7 a8 a9 a10 : Nat → Int32}
    (S : zd_S s t lt tg fs ft fst fwh ct a1 a2 a3 a5 a6 a10) (hc : c < 4) (H : ∀ r u, zd_V u → post r u) :
    wpX_target post (fs, ft, fst, fwh, ct, sa, a1, a2, a3, a4, a5, a6, a7, a8, a9, a10) (nI c) := by
  have S0 := S
  obtain ⟨hs, ht, rfl, rfl, rfl, h10, h1, M⟩ := S
  unfold wpX_target
  dsimp only
  unfold wpX_badLetter
  dsimp only
  rw [nI_clamp (show t < 2 ^ 31 by omega)]
  refine pk_lt c 0 (fun z => absurd z (by omega)) (fun _ => pk_le c 3 (fun _ => br_t rfl (pk_eq t 24 (fun z => H _ _ ⟨s, t, lt, tg, S0⟩) (fun z => ⟨pk_in t 24 (by omega), nm_e (nm_r (nI_1 t) ?_)⟩))) (fun z => absurd z (by omega)))
  refine H _ _ ⟨s, t + 1, lt, fun i => if i = t then c else tg i, hs, by omega, rfl, rfl, rfl, h10, ?_, M⟩
  intro i hi
  show (if i = t then c else tg i) < 4 ∧ upd a1 t (nI c) i = nI (if i = t then c else tg i)
  by_cases e : i = t
  · rw [if_pos e, e, pk_us]
    exact ⟨hc, rfl⟩
  · rw [if_neg e, pk_un e]
    exact h1 i (by omega)
theorem zw_change {post : Int32 → St1 → Prop} {s t c j : Nat} {lt tg : Nat → Nat} {fs ft fst fwh ct sa : Int32} {a1 a2 a3 a4 a5 a6 a7 a8 a9 a10 : Nat → Int32}
    (S : zd_S s t lt tg fs ft fst fwh ct a1 a2 a3 a5 a6 a10) (hc : c < 4) (hj : j < 16) (H : ∀ r u, zd_V u → post r u) :
    wpX_change post (fs, ft, fst, fwh, ct, sa, a1, a2, a3, a4, a5, a6, a7, a8, a9, a10) (nI j) (nI c) := by
  have S0 := S
  obtain ⟨hs, ht, rfl, rfl, rfl, h10, h1, M⟩ := S
  unfold wpX_change
  dsimp only
  unfold wpX_badLetter
  dsimp only
  rw [nI_clamp (show j < 2 ^ 31 by omega)]
  refine pk_lt j 0 (fun z => absurd z (by omega)) (fun _ => pk_le t j (fun z => H _ _ ⟨s, t, lt, tg, S0⟩) (fun z => pk_lt c 0 (fun z => absurd z (by omega)) (fun _ => pk_le c 3 (fun _ => br_t rfl ⟨pk_in j 24 (by omega), nm_e ⟨pk_in j 24 (by omega), nm_e ?_⟩⟩) (fun z => absurd z (by omega)))))
  refine H _ _ ⟨s, t, lt, fun i => if i = j then c else tg i, hs, ht, rfl, rfl, rfl, h10, ?_, M⟩
  intro i hi
  show (if i = j then c else tg i) < 4 ∧ upd a1 j (nI c) i = nI (if i = j then c else tg i)
  by_cases e : i = j
  · rw [if_pos e, e, pk_us]
    exact ⟨hc, rfl⟩
  · rw [if_neg e, pk_un e]
    exact h1 i hi
/-- the target with a stretch of the source behind it -/
def zd_qt (t k : Nat) (lt tg : Nat → Nat) : Nat → Nat := fun j => if j < t then tg j else lt (k + (j - t))
theorem zw_quote {post : Int32 → St1 → Prop} {s t k m : Nat} {lt tg : Nat → Nat} {fs ft fst fwh ct sa : Int32} {a1 a2 a3 a4 a5 a6 a7 a8 a9 a10 : Nat → Int32}
    (S : zd_S s t lt tg fs ft fst fwh ct a1 a2 a3 a5 a6 a10) (hk : k + m ≤ s)
    (H1 : t + m ≤ 24 → ∀ b1 : Nat → Int32, zd_S s (t + m) lt (zd_qt t k lt tg) fs (nI (t + m)) fst fwh ct b1 a2 a3 a5 a6 a10 → post (nI (t + m)) (fs, nI (t + m), fst, fwh, ct, sa, b1, a2, a3, a4, a5, a6, a7, a8, a9, a10))
    (H2 : 24 < t + m → post (-2) (fs, ft, fst, fwh, ct, sa, a1, a2, a3, a4, a5, a6, a7, a8, a9, a10)) :
    wpX_quote post (fs, ft, fst, fwh, ct, sa, a1, a2, a3, a4, a5, a6, a7, a8, a9, a10) (nI k) (nI m) := by
  obtain ⟨hs, ht, rfl, rfl, rfl, h10, h1, M⟩ := S
  unfold wpX_quote
  dsimp only
  refine pk_lt k 0 (fun z => absurd z (by omega)) (fun _ => pk_lt m 0 (fun z => absurd z (by omega)) (fun _ => pk_lt s k (fun z => absurd z (by omega)) (fun _ => pk_le m (s - k) (fun _ => pk_le (t + m) 24 (fun z => ?_) (fun z => H2 z) (nI_add t m)) (fun z => absurd z (by omega)) rfl (pk_sub (by omega)))))
  refine pk_loop (fun f i s' => wX_quote_44 post (nI k) (nI m) (nI s) (nI t) fst fwh 0 sa f (nI i) s' a2 a3 a4 a5 a6 a7 a8 a9 a10)
    (fun i s' => (∀ j, j < t → s' j = a1 j) ∧ ∀ j, j < i → s' (t + j) = a10 (k + j)) m 0 a1 (by omega) ⟨fun _ _ => rfl, fun j hj => absurd hj (by omega)⟩ ?_ ?_
  · intro f b1 hb
    refine pk_le m m (fun _ => nm_r (nI_add t m) (H1 z b1 ⟨hs, z, rfl, rfl, rfl, h10, ?_, M⟩)) (fun z => absurd z (by omega))
    intro j hj
    unfold zd_qt
    by_cases e : j < t
    · rw [if_pos e, hb.1 j e]
      exact h1 j e
    · rw [if_neg e]
      have q := hb.2 (j - t) (by omega)
      rw [show t + (j - t) = j by omega] at q
      rw [q]
      exact h10 _ (by omega)
  · intro f i b1 hi hb hw
    refine pk_le m i (fun z => absurd z (by omega)) (fun _ => ⟨pk_in (k + i) 32 (by omega) (nI_add k i), pk_in (t + i) 24 (by omega) (nI_add t i), nm_r (e' := upd b1 (t + i) (a10 (k + i))) (by rw [nI_add, nI_add, nI_clamp (by omega), nI_clamp (by omega)]) (nm_r (nI_1 i) (hw _ ⟨fun j hj => ?_, fun j hj => ?_⟩))⟩)
    · rw [pk_un (by omega)]
      exact hb.1 j hj
    · by_cases e : j = i
      · rw [e, pk_us]
      · rw [pk_un (by omega)]
        exact hb.2 j (by omega)
/-- the source with the target behind it -/
def zd_at (s : Nat) (lt tg : Nat → Nat) : Nat → Nat := fun j => if j < s then lt j else tg (j - s)
theorem zw_a19 {post : Int32 → St1 → Prop} {s t : Nat} {l tg : Nat → Nat} {sa : Int32} {a1 a7 a8 a9 : Nat → Int32} (hst : s + t ≤ 32) (ht : t ≤ 24) (h1 : ∀ i, i < t → tg i < 4 ∧ a1 i = nI (tg i)) (hl : ∀ i, i < t → l (s + i) = tg i)
    (H : ∀ (gst gwh : Int32) (b2 b3 b4 b5 b6 b10 : Nat → Int32), (∀ j, j < s + t → l j < 4 ∧ b10 j = nI (l j)) → zd_M (s + t) (zd_sg l 0 (s + t)) gst gwh b2 b3 b5 b6 → post (nI (s + t)) (nI (s + t), 0, gst, gwh, 0, sa, a1, b2, b3, b4, b5, b6, a7, a8, a9, b10)) :
    ∀ (k i : Nat) (gst gwh : Int32) (b2 b3 b4 b5 b6 b10 : Nat → Int32), i + k = t → (∀ j, j < s + i → l j < 4 ∧ b10 j = nI (l j)) → zd_M (s + i) (zd_sg l 0 (s + i)) gst gwh b2 b3 b5 b6 →
      wX_accept_19 post (k + 1) (nI i) (nI (s + i)) (nI t) gst gwh 0 sa a1 b2 b3 b4 b5 b6 a7 a8 a9 b10 := by
  intro k
  induction k with
  | zero =>
    intro i gst gwh b2 b3 b4 b5 b6 b10 hi h10 M
    have e : i = t := by omega
    subst e
    exact pk_le i i (fun _ => H gst gwh b2 b3 b4 b5 b6 b10 h10 M) (fun z => absurd z (by omega))
  | succ k ih =>
    intro i gst gwh b2 b3 b4 b5 b6 b10 hi h10 M
    obtain ⟨q1, q2⟩ := h1 i (by omega)
    refine pk_le t i (fun z => absurd z (by omega)) (fun _ => ⟨pk_in i 24 (by omega), ?_⟩)
    rw [nI_clamp (show i < 2 ^ 31 by omega), q2]
    refine zw_grow (s := s + i) (by omega) (zd_sg_len l 0 (s + i)) q1 rfl M (fun kst kwh c2 c3 c4 c5 c6 M' => ?_)
    refine nm_r (nI_1 i) (ih (i + 1) kst kwh c2 c3 c4 c5 c6 _ (by omega) ?_ ?_)
    · intro j hj
      by_cases e : j = s + i
      · rw [e, pk_us, hl i (by omega)]
        exact ⟨q1, rfl⟩
      · rw [pk_un e]
        exact h10 j (by omega)
    · have e : zd_sg l 0 (s + (i + 1)) = tg i :: zd_sg l 0 (s + i) := by
        show l (0 + (s + i)) :: zd_sg l 0 (s + i) = tg i :: zd_sg l 0 (s + i)
        rw [Nat.zero_add, hl i (by omega)]
      rw [e]
      exact M'
theorem zw_accept {post : Int32 → St1 → Prop} {s t : Nat} {lt tg : Nat → Nat} {fs ft fst fwh ct sa : Int32} {a1 a2 a3 a4 a5 a6 a7 a8 a9 a10 : Nat → Int32}
    (S : zd_S s t lt tg fs ft fst fwh ct a1 a2 a3 a5 a6 a10)
    (H1 : s + t ≤ 32 → ∀ (gst gwh : Int32) (b2 b3 b4 b5 b6 b10 : Nat → Int32), zd_S (s + t) 0 (zd_at s lt tg) tg (nI (s + t)) 0 gst gwh 0 a1 b2 b3 b5 b6 b10 → post (nI (s + t)) (nI (s + t), 0, gst, gwh, 0, sa, a1, b2, b3, b4, b5, b6, a7, a8, a9, b10))
    (H2 : 32 < s + t → post (-2) (fs, ft, fst, fwh, ct, sa, a1, a2, a3, a4, a5, a6, a7, a8, a9, a10)) :
    wpX_accept post (fs, ft, fst, fwh, ct, sa, a1, a2, a3, a4, a5, a6, a7, a8, a9, a10) := by
  obtain ⟨hs, ht, rfl, rfl, rfl, h10, h1, M⟩ := S
  unfold wpX_accept
  dsimp only
  refine pk_le (s + t) 32 (fun z => ⟨t + 1, ?_⟩) (fun z => H2 z) (nI_add s t)
  have e0 : ∀ i, i < s → zd_at s lt tg i = lt i := fun i hi => if_pos hi
  refine zw_a19 (s := s) (t := t) (l := zd_at s lt tg) z ht h1 ?_ (fun gst gwh b2 b3 b4 b5 b6 b10 k1 k2 => H1 z gst gwh b2 b3 b4 b5 b6 b10 ⟨z, by omega, rfl, rfl, rfl, k1, fun i hi => absurd hi (by omega), k2⟩) t 0 fst fwh a2 a3 a4 a5 a6 a10 (by omega) ?_ ?_
  · intro i hi
    unfold zd_at
    rw [if_neg (by omega), show s + i - s = i by omega]
  · intro j hj
    rw [e0 j (by omega)]
    exact h10 j (by omega)
  · have e : zd_sg (zd_at s lt tg) 0 s = zd_sg lt 0 s := zd_sg_eq s (fun a ha => e0 _ (by omega))
    show zd_M s (zd_sg (zd_at s lt tg) 0 s) fst fwh a2 a3 a5 a6
    rw [e]
    exact M
theorem zw_len (s t : Nat) : nI s + 64 * nI t = nI (s + 64 * t) := by
  rw [show (64 : Int32) = nI 64 from rfl, pk_mul, nI_add]
theorem zw_len6 {s t : Nat} (hs : s ≤ 32) (ht : t ≤ 24) : nI (s + 64 * t) &&& 63 = nI s := by
  rw [pk_andN (by omega) 6 (by decide), show (s + 64 * t) % 2 ^ 6 = s by omega]
theorem zw_lenT {s t : Nat} (hs : s ≤ 32) (ht : t ≤ 24) : nI (s + 64 * t) >>> ((6 : Int32) &&& 31) = nI t := by
  rw [pk_shrN (by omega) _ 6 (by decide), show (s + 64 * t) / 2 ^ 6 = t by omega]
theorem zw_t21 {post : Int32 → St1 → Prop} {s t c o : Nat} {x : Int32} {lt tg : Nat → Nat} {fs ft fst fwh ct sa : Int32} {a1 a2 a3 a4 a5 a6 a7 a8 a9 a10 : Nat → Int32}
    (S : zd_S s t lt tg fs ft fst fwh ct a1 a2 a3 a5 a6 a10) (hc : c < 4) (ho : o < 16) (H : ∀ r u, zd_V u → post r u) :
    wL_turn_21 post x (nI o) (nI c) fs ft fst fwh ct sa a1 a2 a3 a4 a5 a6 a7 a8 a9 a10 := by
  have S0 := S
  obtain ⟨hs, ht, rfl, rfl, rfl, h10, h1, M⟩ := S
  obtain ⟨j1, hj1, ej1⟩ := pk_andE (x >>> ((4 : Int32) &&& 31)) (m := 31) 5 (by decide)
  obtain ⟨j2, hj2, ej2⟩ := pk_andE (x >>> ((4 : Int32) &&& 31)) (m := 15) 4 (by decide)
  obtain ⟨j3, hj3, ej3⟩ := pk_andE (x >>> ((9 : Int32) &&& 31)) (m := 15) 4 (by decide)
  have m1 : j1 % (s + 1) < s + 1 := Nat.mod_lt _ (by omega)
  have m2 : j3 % (s - j1 % (s + 1) + 1) < s - j1 % (s + 1) + 1 := Nat.mod_lt _ (by omega)
  unfold wL_turn_21
  unfold wpX_lengths
  dsimp only
  rw [zw_len, zw_len6 hs ht, ej1, ej2, ej3]
  refine nm_e ⟨by rw [nI_1]; exact nI_ne0 (by omega) (by omega), nm_r (e' := nI (j1 % (s + 1))) (by rw [nI_1, pk_rem (by omega) (by omega) (by omega)]) ?_⟩
  refine pk_le 6 o (fun _ => pk_le 9 o (fun _ => pk_le 12 o (fun _ => pk_eq o 12 (fun _ => ?_) (fun _ => pk_eq o 13 (fun _ => ?_) (fun _ => br_c (fun _ => ?_) (fun _ => ?_)))) (fun _ => ⟨?_, ?_⟩)) (fun _ => ?_)) (fun _ => ?_)
  · exact zw_change S0 hc (by omega) (fun r u hu => H r u hu)
  · exact zw_accept S0 (fun z gst gwh b2 b3 b4 b5 b6 b10 S' => H _ _ ⟨_, _, _, _, S'⟩) (fun z => H _ _ ⟨_, _, _, _, S0⟩)
  · unfold wpX_clearSource
    dsimp only
    refine zw_reset (fun gst gwh b2 b3 b5 b6 M' => ?_)
    exact H _ _ ⟨0, t, lt, tg, by omega, ht, rfl, rfl, rfl, fun i hi => absurd hi (by omega), h1, M'⟩
  · exact H _ _ ⟨s, 0, lt, tg, hs, by omega, rfl, rfl, rfl, h10, fun i hi => absurd hi (by omega), M⟩
  · rw [pk_sub (by omega), nI_1]
    exact nI_ne0 (by omega) (by omega)
  · rw [pk_sub (by omega), nI_1, pk_rem (by omega) (by omega) (by omega)]
    exact zw_quote S0 (by omega) (fun z b1 S' => H _ _ ⟨_, _, _, _, S'⟩) (fun z => H _ _ ⟨_, _, _, _, S0⟩)
  · exact zw_target S0 hc (fun r u hu => H r u hu)
  · exact zw_source S0 hc (fun r u hu => H r u hu)
theorem zw_turn {post : Int32 → St1 → Prop} {u : St1} (hu : zd_V u) (p1 p2 : Int32) (H : ∀ r u, zd_V u → post r u) : wpL_turn post u p1 p2 := by
  obtain ⟨fs, ft, fst, fwh, ct, sa, a1, a2, a3, a4, a5, a6, a7, a8, a9, a10⟩ := u
  obtain ⟨s, t, lt, tg, S⟩ := hu
  obtain ⟨o, ho, eo⟩ := pk_andE p1 (m := 15) 4 (by decide)
  obtain ⟨c1, hc1, e1⟩ := pk_andE p2 (m := 3) 2 (by decide)
  obtain ⟨c2, hc2, e2⟩ := pk_andE p2 (m := 1) 1 (by decide)
  unfold wpL_turn
  dsimp only
  rw [eo, e1, e2]
  exact nm_e (br_c (fun _ => zw_t21 S (by omega) ho H) (fun _ => zw_t21 S (by omega) ho H))
end
section
theorem zw_lf {post : Int32 → St1 → Prop} {s t i : Nat} {lt tg : Nat → Nat} {fs ft fst fwh ct ct' sa : Int32} {a1 a2 a3 a4 a5 a6 a7 a8 a9 a10 : Nat → Int32}
    (S : zd_S s t lt tg fs ft fst fwh ct' a1 a2 a3 a5 a6 a10) (hi : i ≤ t)
    (H : ∀ sa' : Int32, post (nI (zd_L (zd_sg lt 0 s) tg t i)) (fs, ft, fst, fwh, ct, sa', a1, a2, a3, a4, a5, a6, a7, a8, a9, a10)) :
    wpX_longestFrom post (fs, ft, fst, fwh, ct, sa, a1, a2, a3, a4, a5, a6, a7, a8, a9, a10) (nI i) := by
  obtain ⟨hs, ht, rfl, rfl, _, h10, h1, M⟩ := S
  obtain ⟨n, h, W, lk, nx, hn, rfl, rfl, I, M1, M2, M3⟩ := M
  have l1 := zd_L1 (zd_sg lt 0 s) tg t i
  have l2 := zd_L2 (zd_sg lt 0 s) tg t i
  have l3 := zd_L3 (zd_sg lt 0 s) tg t i
  revert H l1 l2 l3
  generalize zd_L (zd_sg lt 0 s) tg t i = m
  intro H l1 l2 l3
  unfold wpX_longestFrom
  dsimp only
  refine pk_loop (fun f j v => wX_longestFrom_9 post (nI s) (nI t) (nI n) (nI h) ct a1 a2 a3 a4 a5 a6 a7 a8 a9 a10 f (nI j) (nI (i + j)) v) (fun j v => ∃ k, k < n ∧ v = nI k ∧ zd_cl W lk k (zd_sg tg i j)) m 0 0 (by omega) ⟨0, (zd_a I).1, rfl, List.nil_prefix, by rw [zd_mn0]; exact Nat.zero_le _⟩ ?_ ?_
  · intro f v hv
    obtain ⟨k, hk, rfl, hcl⟩ := hv
    refine pk_le t (i + m) (fun _ => H _) (fun z => ?_)
    obtain ⟨q1, q2⟩ := h1 (i + m) (by omega)
    have k0 : nx k (tg (i + m)) = 0 := by
      by_cases e : nx k (tg (i + m)) = 0
      · exact e
      · exact absurd (zd_fac I (zd_d I hk q1 e).1 (zd_step I hk q1 hcl e)) (l3 (by omega))
    rw [nI_clamp (show i + m < 2 ^ 31 by omega), q2, zw_ixc (by omega) q1, M3 k _ hk q1, k0]
    exact ⟨pk_in (i + m) 24 (by omega), pk_in (k * 4 + tg (i + m)) 260 (by omega) (zw_ix _ _), br_t (by decide) (H _)⟩
  · intro f j v hj hv hw
    obtain ⟨k, hk, rfl, hcl⟩ := hv
    obtain ⟨q1, q2⟩ := h1 (i + j) (by omega)
    have k0 : nx k (tg (i + j)) ≠ 0 := zd_e I hk q1 hcl ((zd_sg_beg tg i (show j + 1 ≤ m by omega)).trans l2)
    have k1 := (zd_d I hk q1 k0).1
    refine pk_le t (i + j) (fun z => absurd z (by omega)) (fun z => ?_)
    rw [nI_clamp (show i + j < 2 ^ 31 by omega), q2, zw_ixc (by omega) q1, M3 k _ hk q1, zd_cdn k0]
    exact ⟨pk_in (i + j) 24 (by omega), pk_in (k * 4 + tg (i + j)) 260 (by omega) (zw_ix _ _), br_f (nI_pos (by omega)) ⟨pk_in (i + j) 24 (by omega), pk_in (k * 4 + tg (i + j)) 260 (by omega) (zw_ix _ _), nm_e (nm_r (nI_1 j) (nm_r (nI_1 (i + j)) (hw _ ⟨_, k1, rfl, zd_step I hk q1 hcl k0⟩)))⟩⟩
theorem zw_N0 {w : List Nat} {f : Nat → Nat} {t i : Nat} (h : zd_L w f t i = 0) : nI i + 1 = nI (zd_N w f t i) := by
  unfold zd_N
  rw [if_pos h, nI_1]
theorem zw_N1 {w : List Nat} {f : Nat → Nat} {t i : Nat} (h : zd_L w f t i ≠ 0) : nI i + nI (zd_L w f t i) = nI (zd_N w f t i) := by
  unfold zd_N
  rw [if_neg h, nI_add]
theorem zw_pieces {post : Int32 → St1 → Prop} {s t : Nat} {lt tg : Nat → Nat} {fs ft fst fwh ct ct' sa : Int32} {a1 a2 a3 a4 a5 a6 a7 a8 a9 a10 : Nat → Int32}
    (S : zd_S s t lt tg fs ft fst fwh ct' a1 a2 a3 a5 a6 a10)
    (H : ∀ sa' : Int32, post (nI (zd_C (zd_N (zd_sg lt 0 s) tg t) t 0)) (fs, ft, fst, fwh, ct, sa', a1, a2, a3, a4, a5, a6, a7, a8, a9, a10)) :
    wpX_pieces post (fs, ft, fst, fwh, ct, sa, a1, a2, a3, a4, a5, a6, a7, a8, a9, a10) := by
  have S0 := S
  obtain ⟨hs, ht, rfl, rfl, _, _, _, _⟩ := S
  have N1 : ∀ i, i < t → i < zd_N (zd_sg lt 0 s) tg t i ∧ zd_N (zd_sg lt 0 s) tg t i ≤ t := fun i hi => zd_N1 hi
  have cl := zd_C_le (N := zd_N (zd_sg lt 0 s) tg t) (t := t) 0
  unfold wpX_pieces
  dsimp only
  refine pk_loop (fun f k v => wX_pieces_6 post f (nI k) (nI (zd_P (zd_N (zd_sg lt 0 s) tg t) k)) (nI k) (nI s) (nI t) fst fwh ct v a1 a2 a3 a4 a5 a6 a7 a8 a9 a10) (fun _ _ => True) (zd_C (zd_N (zd_sg lt 0 s) tg t) t 0) 0 sa (by omega) trivial ?_ ?_
  · intro f v _
    refine pk_le 24 _ (fun _ => H v) (fun _ => ?_)
    rw [zd_PK N1]
    exact pk_le t t (fun _ => H v) (fun z => absurd z (by omega))
  · intro f k v hk _ hw
    obtain ⟨p1, p2, p3⟩ := zd_Pc N1 k (by omega)
    have p4 := p3 hk
    refine pk_le 24 k (fun z => absurd z (by omega)) (fun _ => pk_le t (zd_P (zd_N (zd_sg lt 0 s) tg t) k) (fun z => absurd z (by omega)) (fun z => zw_lf S0 p1 (fun sa' => ?_)))
    have l1 := zd_L1 (zd_sg lt 0 s) tg t (zd_P (zd_N (zd_sg lt 0 s) tg t) k)
    exact pk_eq (zd_L (zd_sg lt 0 s) tg t (zd_P (zd_N (zd_sg lt 0 s) tg t) k)) 0 (fun e => nm_r (zw_N0 e) (nm_r (nI_1 k) (nm_r (nI_1 k) (hw sa' trivial)))) (fun e => nm_r (zw_N1 e) (nm_r (nI_1 k) (nm_r (nI_1 k) (hw sa' trivial))))
theorem zw_begin {post : Int32 → St1 → Prop} {s t p : Nat} {lt tg : Nat → Nat} {fs ft fst fwh ct ct' sa : Int32} {a1 a2 a3 a4 a5 a6 a7 a8 a9 a10 : Nat → Int32}
    (S : zd_S s t lt tg fs ft fst fwh ct' a1 a2 a3 a5 a6 a10) (hp : p ≤ zd_C (zd_N (zd_sg lt 0 s) tg t) t 0)
    (H : ∀ sa' : Int32, post (nI (zd_P (zd_N (zd_sg lt 0 s) tg t) p)) (fs, ft, fst, fwh, ct, sa', a1, a2, a3, a4, a5, a6, a7, a8, a9, a10)) :
    wpX_pieceBegin post (fs, ft, fst, fwh, ct, sa, a1, a2, a3, a4, a5, a6, a7, a8, a9, a10) (nI p) := by
  have S0 := S
  obtain ⟨hs, ht, rfl, rfl, _, _, _, _⟩ := S
  have N1 : ∀ i, i < t → i < zd_N (zd_sg lt 0 s) tg t i ∧ zd_N (zd_sg lt 0 s) tg t i ≤ t := fun i hi => zd_N1 hi
  have cl := zd_C_le (N := zd_N (zd_sg lt 0 s) tg t) (t := t) 0
  unfold wpX_pieceBegin
  dsimp only
  refine pk_loop (fun f k v => wX_pieceBegin_4 post (nI p) f (nI (zd_P (zd_N (zd_sg lt 0 s) tg t) k)) (nI k) (nI s) (nI t) fst fwh ct v a1 a2 a3 a4 a5 a6 a7 a8 a9 a10) (fun _ _ => True) p 0 sa (by omega) trivial ?_ ?_
  · intro f v _
    exact pk_le p p (fun _ => H v) (fun z => absurd z (by omega))
  · intro f k v hk _ hw
    obtain ⟨p1, p2, p3⟩ := zd_Pc N1 k (by omega)
    have p4 := p3 (by omega)
    refine pk_le p k (fun z => absurd z (by omega)) (fun _ => pk_le t (zd_P (zd_N (zd_sg lt 0 s) tg t) k) (fun z => absurd z (by omega)) (fun z => zw_lf S0 p1 (fun sa' => ?_)))
    have l1 := zd_L1 (zd_sg lt 0 s) tg t (zd_P (zd_N (zd_sg lt 0 s) tg t) k)
    exact pk_eq (zd_L (zd_sg lt 0 s) tg t (zd_P (zd_N (zd_sg lt 0 s) tg t) k)) 0 (fun e => nm_r (zw_N0 e) (nm_r (nI_1 k) (hw sa' trivial))) (fun e => nm_r (zw_N1 e) (nm_r (nI_1 k) (hw sa' trivial)))
theorem zw_plen {post : Int32 → St1 → Prop} {s t p : Nat} {lt tg : Nat → Nat} {fs ft fst fwh ct ct' sa : Int32} {a1 a2 a3 a4 a5 a6 a7 a8 a9 a10 : Nat → Int32}
    (S : zd_S s t lt tg fs ft fst fwh ct' a1 a2 a3 a5 a6 a10) (hp : p ≤ zd_C (zd_N (zd_sg lt 0 s) tg t) t 0)
    (H1 : p < zd_C (zd_N (zd_sg lt 0 s) tg t) t 0 → ∀ (m : Nat) (sa' : Int32), 1 ≤ m → m ≤ 24 → zd_P (zd_N (zd_sg lt 0 s) tg t) p + m = zd_P (zd_N (zd_sg lt 0 s) tg t) (p + 1) → post (nI m) (fs, ft, fst, fwh, ct, sa', a1, a2, a3, a4, a5, a6, a7, a8, a9, a10))
    (H2 : p = zd_C (zd_N (zd_sg lt 0 s) tg t) t 0 → ∀ sa' : Int32, post (-4) (fs, ft, fst, fwh, ct, sa', a1, a2, a3, a4, a5, a6, a7, a8, a9, a10)) :
    wpX_pieceLength post (fs, ft, fst, fwh, ct, sa, a1, a2, a3, a4, a5, a6, a7, a8, a9, a10) (nI p) := by
  have S0 := S
  obtain ⟨hs, ht, rfl, rfl, _, _, _, _⟩ := S
  have N1 : ∀ i, i < t → i < zd_N (zd_sg lt 0 s) tg t i ∧ zd_N (zd_sg lt 0 s) tg t i ≤ t := fun i hi => zd_N1 hi
  have cl := zd_C_le (N := zd_N (zd_sg lt 0 s) tg t) (t := t) 0
  obtain ⟨p1, p2, p3⟩ := zd_Pc N1 p hp
  unfold wpX_pieceLength
  dsimp only
  refine br_t (nI_pos' (by omega)) (zw_begin S0 hp (fun sa' => ?_))
  dsimp only
  refine pk_lt (zd_P (zd_N (zd_sg lt 0 s) tg t) p) t (fun z => zw_lf S0 p1 (fun sb => ?_)) (fun z => ?_)
  · have l1 := zd_L1 (zd_sg lt 0 s) tg t (zd_P (zd_N (zd_sg lt 0 s) tg t) p)
    have hk : p < zd_C (zd_N (zd_sg lt 0 s) tg t) t 0 := by
      have := zd_C1 N1 z
      omega
    refine pk_eq (zd_L (zd_sg lt 0 s) tg t (zd_P (zd_N (zd_sg lt 0 s) tg t) p)) 0 (fun e => H1 hk 1 sb (by omega) (by omega) ?_) (fun e => H1 hk _ sb (by omega) (by omega) ?_)
    · show zd_P (zd_N (zd_sg lt 0 s) tg t) p + 1 = zd_N (zd_sg lt 0 s) tg t (zd_P (zd_N (zd_sg lt 0 s) tg t) p)
      unfold zd_N at e ⊢
      rw [if_pos e]
    · show zd_P (zd_N (zd_sg lt 0 s) tg t) p + zd_L (zd_sg lt 0 s) tg t (zd_P (zd_N (zd_sg lt 0 s) tg t) p) = zd_N (zd_sg lt 0 s) tg t (zd_P (zd_N (zd_sg lt 0 s) tg t) p)
      unfold zd_N at e ⊢
      rw [if_neg e]
  · refine H2 ?_ sa'
    rw [zd_C0 z] at p2
    omega
theorem zw_cheap {post : Int32 → St1 → Prop} {s t : Nat} {lt tg : Nat → Nat} {fs ft fst fwh ct ct' sa : Int32} {a1 a2 a3 a4 a5 a6 a7 a8 a9 a10 : Nat → Int32}
    (S : zd_S s t lt tg fs ft fst fwh ct' a1 a2 a3 a5 a6 a10)
    (H : ∀ (sa' : Int32) (b9 : Nat → Int32), post (nI (zd_C (zd_N (zd_sg lt 0 s) tg t) t 0)) (fs, ft, fst, fwh, ct, sa', a1, a2, a3, a4, a5, a6, a7, a8, b9, a10)) :
    wpX_cheapest post (fs, ft, fst, fwh, ct, sa, a1, a2, a3, a4, a5, a6, a7, a8, a9, a10) 1 1 := by
  have S0 := S
  obtain ⟨hs, ht, rfl, rfl, _, _, _, _⟩ := S
  have N1 : ∀ i, i < t → i < zd_N (zd_sg lt 0 s) tg t i ∧ zd_N (zd_sg lt 0 s) tg t i ≤ t := fun i hi => zd_N1 hi
  have N2 : ∀ i j, i ≤ j → zd_N (zd_sg lt 0 s) tg t i ≤ zd_N (zd_sg lt 0 s) tg t j := fun i j h => zd_N3 _ _ _ i h
  have main : ∀ (i : Nat) (sb : Int32) (b9 : Nat → Int32), i ≤ t → (∀ j, i ≤ j → j ≤ t → b9 j = nI (zd_C (zd_N (zd_sg lt 0 s) tg t) t j)) →
      wX_cheapest_39 post 1 1 (i + 1) (nI i + (-1)) (nI s) (nI t) fst fwh ct sb a1 a2 a3 a4 a5 a6 a7 a8 b9 a10 := by
    intro i
    induction i with
    | zero =>
      intro sb b9 _ hb
      refine br_t (by decide) ?_
      rw [hb 0 (by omega) (by omega)]
      exact H sb b9
    | succ i ih =>
      intro sb b9 hi hb
      rw [pk_m1]
      refine pk_lt i 0 (fun z => absurd z (by omega)) (fun _ => ⟨pk_in (i + 1) 25 (by omega) (nI_1 i), nm_r (e' := nI (zd_C (zd_N (zd_sg lt 0 s) tg t) t (i + 1) + 1)) ?_ (zw_lf S0 (by omega) (fun sc => ?_))⟩)
      · rw [nI_1 i, nI_clamp (by omega), hb (i + 1) (by omega) (by omega), nI_1]
      · have l1 := zd_L1 (zd_sg lt 0 s) tg t i
        have hC := zd_C1 N1 (i := i) (by omega)
        have hcle : ∀ j, zd_C (zd_N (zd_sg lt 0 s) tg t) t j ≤ 24 := fun j => by
          have := zd_C_le (N := zd_N (zd_sg lt 0 s) tg t) (t := t) j
          omega
        have hN : zd_N (zd_sg lt 0 s) tg t i = i + max 1 (zd_L (zd_sg lt 0 s) tg t i) := by
          unfold zd_N
          by_cases e : zd_L (zd_sg lt 0 s) tg t i = 0
          · rw [if_pos e]
            omega
          · rw [if_neg e]
            omega
        rw [hN] at hC
        revert l1 hC
        generalize zd_L (zd_sg lt 0 s) tg t i = m
        intro l1 hC
        dsimp only
        refine pk_loop (σ := Unit) (fun f k _ => wX_cheapest_65 post (wX_cheapest_39 post 1 1 (i + 1)) 1 1 (nI i) (nI m) (nI s) (nI t) fst fwh ct sc a1 a2 a3 a4 a5 a6 a7 a8 b9 a10 f (nI (zd_C (zd_N (zd_sg lt 0 s) tg t) t (i + max 1 k) + 1)) (nI (k + 1))) (fun _ _ => True) m 0 () (by omega) trivial ?_ ?_
        · intro f _ _
          refine pk_lt m (m + 1) (fun _ => ⟨pk_in i 25 (by omega), nm_r (e' := upd b9 i (nI (zd_C (zd_N (zd_sg lt 0 s) tg t) t i))) (by rw [nI_clamp (by omega), hC]) (nm_e (ih sc _ (by omega) ?_))⟩) (fun z => absurd z (by omega))
          intro j h1 h2
          by_cases e : j = i
          · rw [e, pk_us]
          · rw [pk_un e]
            exact hb j (by omega) h2
        · intro f k _ hk _ hw
          have c1 := hcle (i + max 1 k)
          have c2 := hcle (i + (k + 1))
          have mo := zd_C_mono N1 N2 (show i + max 1 k ≤ i + (k + 1) by omega)
          have hw' := hw () trivial
          rw [show max 1 (k + 1) = k + 1 by omega] at hw'
          refine pk_lt m (k + 1) (fun z => absurd z (by omega)) (fun _ => ⟨pk_in (i + (k + 1)) 25 (by omega) (nI_add _ _), nm_r (e' := nI (zd_C (zd_N (zd_sg lt 0 s) tg t) t (i + (k + 1)) + 1)) ?_ (pk_le (zd_C (zd_N (zd_sg lt 0 s) tg t) t (i + max 1 k) + 1) (zd_C (zd_N (zd_sg lt 0 s) tg t) t (i + (k + 1)) + 1) (fun z => nm_r (nI_1 (k + 1)) ?_) (fun z => nm_r (nI_1 (k + 1)) hw'))⟩)
          · rw [nI_add, nI_clamp (by omega), hb _ (by omega) (by omega), nI_1]
          · rw [show zd_C (zd_N (zd_sg lt 0 s) tg t) t (i + max 1 k) = zd_C (zd_N (zd_sg lt 0 s) tg t) t (i + (k + 1)) by omega]
            exact hw'
  unfold wpX_cheapest
  dsimp only
  refine br_f (by decide) (br_f (by decide) (br_f (by decide) (br_t (by decide) ⟨pk_in t 25 (by omega), nm_r (e' := upd a9 t 0) (by rw [nI_clamp (by omega)]) (nm_r (e' := nI t + (-1)) (Int32.sub_eq_add_neg _ _) ⟨t + 1, main t sa _ (by omega) ?_⟩)⟩)))
  intro j h1 h2
  have e : j = t := by omega
  rw [e, pk_us, zd_C0 (Nat.le_refl t), nI_0]
theorem zw_longest {post : Int32 → St1 → Prop} {s t : Nat} {lt tg : Nat → Nat} {fs ft fst fwh ct ct' sa : Int32} {a1 a2 a3 a4 a5 a6 a7 a8 a9 a10 : Nat → Int32}
    (S : zd_S s t lt tg fs ft fst fwh ct' a1 a2 a3 a5 a6 a10) (hf : zd_sg tg 0 t <:+: zd_sg lt 0 s)
    (H : ∀ sa' : Int32, post (nI t) (fs, ft, fst, fwh, ct, sa', a1, a2, a3, a4, a5, a6, a7, a8, a9, a10)) :
    wpX_longest post (fs, ft, fst, fwh, ct, sa, a1, a2, a3, a4, a5, a6, a7, a8, a9, a10) := by
  have S0 := S
  obtain ⟨hs, ht, rfl, rfl, _, _, _, _⟩ := S
  unfold wpX_longest
  dsimp only
  refine pk_loop (fun f i v => wX_longest_4 post f (nI (if i = 0 then 0 else t)) (nI i) (nI s) (nI t) fst fwh ct v a1 a2 a3 a4 a5 a6 a7 a8 a9 a10) (fun _ _ => True) t 0 sa (by omega) trivial ?_ ?_
  · intro f v _
    have e : (if t = 0 then 0 else t) = t := by
      by_cases z : t = 0
      · rw [if_pos z, z]
      · rw [if_neg z]
    rw [e]
    exact pk_le t t (fun _ => H v) (fun z => absurd z (by omega))
  · intro f i v hi _ hw
    refine pk_le t i (fun z => absurd z (by omega)) (fun _ => zw_lf S0 (by omega) (fun sa' => ?_))
    have hw' := hw sa' trivial
    rw [if_neg (by omega)] at hw'
    have l1 := zd_L1 (zd_sg lt 0 s) tg t i
    by_cases z : i = 0
    · subst z
      have l2 := zd_L4 (w := zd_sg lt 0 s) (f := tg) (t := t) (i := 0) (k := t) (by omega) hf
      have e : zd_L (zd_sg lt 0 s) tg t 0 = t := by omega
      rw [e, if_pos rfl]
      exact pk_le t 0 (fun z => absurd z (by omega)) (fun _ => nm_r (nI_1 0) hw')
    · rw [if_neg z]
      exact pk_le (zd_L (zd_sg lt 0 s) tg t i) t (fun _ => nm_r (nI_1 i) hw') (fun z => absurd z (by omega))
end
section
theorem zw_words {s t : Nat} {lt tg : Nat → Nat} {fs ft fst fwh ct' : Int32} {a1 a2 a3 a5 a6 a10 : Nat → Int32}
    (S : zd_S s t lt tg fs ft fst fwh ct' a1 a2 a3 a5 a6 a10) :
    ∃ G : Nat → Nat, G 0 = 0 ∧
      (∀ (post : Int32 → Prop) (k : Nat) (ct sa : Int32) (a4 a7 a8 a9 : Nat → Int32), k < 100 → post (nI (G k)) → wpX_wordsOf post (fs, ft, fst, fwh, ct, sa, a1, a2, a3, a4, a5, a6, a7, a8, a9, a10) (nI k)) ∧
      (∀ (post : Int32 → Prop) (ct sa : Int32) (a4 a7 a8 a9 : Nat → Int32), post (nI (zd_sm G 33)) → wpX_words post (fs, ft, fst, fwh, ct, sa, a1, a2, a3, a4, a5, a6, a7, a8, a9, a10)) := by
  obtain ⟨hs, ht, rfl, rfl, _, h10, h1, M⟩ := S
  obtain ⟨n, h, W, lk, nx, hn, rfl, rfl, I, M1, M2, M3⟩ := M
  have hn0 := (zd_a I).1
  have hW : ∀ v, v < n → (W v).length ≤ 32 := by
    intro v hv
    have := (zd_c I hv).length_le
    rw [zd_sg_len] at this
    omega
  have A3 : ∀ v, 1 ≤ v → v < n → a3 v = nI (lk v) := fun v h0 hv => by
    rw [(M1 v hv).2]
    exact if_neg (by omega)
  have cl : ∀ v, v < n → (nI v).toNatClampNeg = v := fun v hv => nI_clamp (by omega)
  refine ⟨fun k => zd_sm (fun v => if v = 0 then 0 else if (W (lk v)).length < k ∧ k ≤ (W v).length then 1 else 0) n, ?_, ?_, ?_⟩
  · show zd_sm (fun v => if v = 0 then 0 else if (W (lk v)).length < 0 ∧ 0 ≤ (W v).length then 1 else 0) n = 0
    rw [zd_sm_eq (g := fun _ => 0) n (fun i hi => ?_), zd_sm_zero]
    by_cases e : i = 0
    · rw [if_pos e]
    · rw [if_neg e, if_neg (by omega)]
  · intro post k ct sa a4 a7 a8 a9 hk H
    unfold wpX_wordsOf
    dsimp only
    refine pk_loop (σ := Unit) (fun f v _ => wX_wordsOf_4 post (nI k) (nI s) (nI t) (nI n) (nI h) ct sa a1 a2 a3 a4 a5 a6 a7 a8 a9 a10 f (nI (zd_sm (fun v => if v = 0 then 0 else if (W (lk v)).length < k ∧ k ≤ (W v).length then 1 else 0) v)) (nI v)) (fun v _ => 1 ≤ v) n 1 () (by omega) (Nat.le_refl 1) ?_ ?_
    · intro f _ _
      exact pk_le n n (fun _ => H) (fun z => absurd z (by omega))
    · intro f v _ hv h1v hw
      have b1 := (zd_b I hv (by omega)).1
      have w1 := hW v hv
      have w2 := hW (lk v) b1
      have key : ∀ b : Nat, (if v = 0 then 0 else if (W (lk v)).length < k ∧ k ≤ (W v).length then 1 else 0) = b → wX_wordsOf_4 post (nI k) (nI s) (nI t) (nI n) (nI h) ct sa a1 a2 a3 a4 a5 a6 a7 a8 a9 a10 f (nI (zd_sm (fun v => if v = 0 then 0 else if (W (lk v)).length < k ∧ k ≤ (W v).length then 1 else 0) v + b)) (nI (v + 1)) := by
        intro b hb
        rw [← hb]
        exact hw () (by omega)
      rw [if_neg (show ¬ v = 0 by omega)] at key
      refine pk_le n v (fun z => absurd z (by omega)) (fun _ => ?_)
      rw [cl v hv, A3 v h1v hv, cl (lk v) b1, (M1 (lk v) b1).1, (M1 v hv).1]
      refine ⟨pk_in v 65 (by omega), pk_in (lk v) 65 (by omega), pk_le k (W (lk v)).length (fun z => nm_r (nI_1 v) ?_) (fun z => ⟨pk_in v 65 (by omega), pk_lt (W v).length k (fun y => nm_r (nI_1 v) ?_) (fun y => nm_r (nI_1 _) (nm_r (nI_1 v) ?_))⟩)⟩
      · exact key 0 (if_neg (by omega))
      · exact key 0 (if_neg (by omega))
      · exact key 1 (if_pos (by omega))
  · intro post ct sa a4 a7 a8 a9 H
    have e : zd_sm (fun k => zd_sm (fun v => if v = 0 then 0 else if (W (lk v)).length < k ∧ k ≤ (W v).length then 1 else 0) n) 33 = zd_sm (fun v => if v = 0 then 0 else (W v).length - (W (lk v)).length) n := by
      rw [zd_sm_swap (fun v k => if v = 0 then 0 else if (W (lk v)).length < k ∧ k ≤ (W v).length then 1 else 0) n 33]
      refine zd_sm_eq n (fun v hv => ?_)
      by_cases z : v = 0
      · rw [if_pos z, zd_sm_eq (g := fun _ => 0) 33 (fun i _ => if_pos z), zd_sm_zero]
      · rw [if_neg z, zd_sm_eq (g := fun k => if (W (lk v)).length < k ∧ k ≤ (W v).length then 1 else 0) 33 (fun i _ => if_neg z), zd_sm_iv _ _ 32]
        have := hW v hv
        omega
    rw [e] at H
    unfold wpX_words
    dsimp only
    refine pk_loop (σ := Unit) (fun f v _ => wX_words_4 post (nI s) (nI t) (nI n) (nI h) ct sa a1 a2 a3 a4 a5 a6 a7 a8 a9 a10 f (nI (zd_sm (fun v => if v = 0 then 0 else (W v).length - (W (lk v)).length) v)) (nI v)) (fun v _ => 1 ≤ v) n 1 () (by omega) (Nat.le_refl 1) ?_ ?_
    · intro f _ _
      exact pk_le n n (fun _ => H) (fun z => absurd z (by omega))
    · intro f v _ hv h1v hw
      obtain ⟨b1, _, b3⟩ := zd_b I hv (show v ≠ 0 by omega)
      have key : ∀ b : Nat, (if v = 0 then 0 else (W v).length - (W (lk v)).length) = b → wX_words_4 post (nI s) (nI t) (nI n) (nI h) ct sa a1 a2 a3 a4 a5 a6 a7 a8 a9 a10 f (nI (zd_sm (fun v => if v = 0 then 0 else (W v).length - (W (lk v)).length) v + b)) (nI (v + 1)) := by
        intro b hb
        rw [← hb]
        exact hw () (by omega)
      refine pk_le n v (fun z => absurd z (by omega)) (fun _ => ?_)
      rw [cl v hv, A3 v h1v hv, cl (lk v) b1, (M1 (lk v) b1).1, (M1 v hv).1]
      refine ⟨pk_in v 65 (by omega), pk_in v 65 (by omega), pk_in (lk v) 65 (by omega), nm_r ?_ (nm_r (nI_1 v) (key _ (if_neg (by omega))))⟩
      rw [nI_add, pk_sub (by omega), Nat.add_sub_assoc (by omega)]
/-- what counting keeps: P: the states whose count has been handed on -/
def zd_J (n : Nat) (lk : Nat → Nat) (a6 : Nat → Int32) (P : Nat → Bool) (m : Nat → Nat) : Prop :=
  (∀ v, v < n → v ≠ 0 → (a6 v = 0 ∨ ∃ u, u < n ∧ u ≠ 0 ∧ lk u = v ∧ P u = true) → 1 ≤ m v) ∧ (∀ v, v < n → m v ≤ n) ∧ zd_sm (fun v => if P v = true then 0 else m v) n ≤ n
theorem zd_J_cg {n : Nat} {lk : Nat → Nat} {a6 : Nat → Int32} {P P' : Nat → Bool} {m : Nat → Nat} (h : zd_J n lk a6 P m) (e : ∀ v, v < n → P' v = P v) : zd_J n lk a6 P' m := by
  obtain ⟨h1, h2, h3⟩ := h
  refine ⟨fun v hv v0 z => h1 v hv v0 ?_, h2, ?_⟩
  · rcases z with z | ⟨u, u1, u2, u3, u4⟩
    · exact Or.inl z
    · exact Or.inr ⟨u, u1, u2, u3, by rw [← e u u1]; exact u4⟩
  · rw [zd_sm_eq (g := fun v => if P v = true then 0 else m v) n (fun i hi => by rw [e i hi])]
    exact h3
theorem zd_J_up {n k l : Nat} {lk : Nat → Nat} {a6 : Nat → Int32} {P P' : Nat → Bool} {m m' : Nat → Nat} (h : zd_J n lk a6 P m) (hk : k < n) (hl : l < n) (ekl : lk k = l) (hkl : k ≠ l) (mk : 1 ≤ m k)
    (pk : P k = false) (pl : P l = false) (pk' : P' k = true) (e : ∀ v, v < n → v ≠ k → P' v = P v) (ml : m' l = m l + m k) (me : ∀ v, v < n → v ≠ l → m' v = m v) : zd_J n lk a6 P' m' := by
  obtain ⟨h1, h2, h3⟩ := h
  have pl' : P' l = false := by rw [e l hl (fun z => hkl z.symm), pl]
  have mg : ∀ v, v < n → m v ≤ m' v := by
    intro v hv
    by_cases z : v = l
    · rw [z, ml]
      omega
    · rw [me v hv z]
      exact Nat.le_refl _
  have two := zd_sm_two (f := fun v => if P v = true then 0 else m v) (g := fun v => if P' v = true then 0 else m' v) hk hl hkl (fun i hi ik il => by
    show (if P' i = true then 0 else m' i) = (if P i = true then 0 else m i)
    rw [e i hi ik, me i hi il])
  rw [if_neg (by rw [pk]; decide), if_neg (by rw [pl]; decide), if_pos pk', if_neg (by rw [pl']; decide), ml] at two
  have h3' : zd_sm (fun v => if P' v = true then 0 else m' v) n ≤ n := by omega
  refine ⟨?_, ?_, h3'⟩
  · intro v hv v0 z
    rcases z with z | ⟨u, u1, u2, u3, u4⟩
    · exact Nat.le_trans (h1 v hv v0 (Or.inl z)) (mg v hv)
    · by_cases uk : u = k
      · have vl : v = l := by rw [← u3, uk, ekl]
        rw [vl, ml]
        omega
      · exact Nat.le_trans (h1 v hv v0 (Or.inr ⟨u, u1, u2, u3, by rw [← e u u1 uk]; exact u4⟩)) (mg v hv)
  · intro v hv
    by_cases z : v = l
    · have := zd_sm_le (f := fun v => if P' v = true then 0 else m' v) hl
      rw [if_neg (by rw [pl']; decide)] at this
      rw [z]
      omega
    · rw [me v hv z]
      exact h2 v hv
end
section
def zd_Pz (W : Nat → List Nat) (z k : Nat) : Nat → Bool := fun v => decide (z < (W v).length ∨ ((W v).length = z ∧ v < k))
def zd_Q (W : Nat → List Nat) (z : Nat) : Nat → Bool := fun v => decide (z < (W v).length)
theorem zw_count {post : St1 → Prop} {n h s : Nat} {w : List Nat} {W : Nat → List Nat} {lk : Nat → Nat} {nx : Nat → Nat → Nat} {ft fwh sa : Int32} {a1 a2 a3 a4 a5 a6 a7 a8 a9 a10 : Nat → Int32}
    (I : zd_I n h w W lk nx) (hn : n ≤ 65) (hw : w.length = s) (hs : s ≤ 32) (M1 : ∀ v, v < n → a2 v = nI (W v).length ∧ a3 v = zd_l3 lk v) (M2 : ∀ v, v < n → v ≠ 0 → a6 v ≠ 0 → ∃ u, u < n ∧ u ≠ 0 ∧ lk u = v)
    (H : ∀ b7 : Nat → Int32, (∀ v, v < n → v ≠ 0 → ∃ m, 1 ≤ m ∧ m ≤ 65 ∧ b7 v = nI m) → post (nI s, ft, nI n, fwh, 1, sa, a1, a2, a3, a4, a5, a6, b7, a8, a9, a10)) :
    wpX_count post (nI s, ft, nI n, fwh, 0, sa, a1, a2, a3, a4, a5, a6, a7, a8, a9, a10) := by
  obtain ⟨hn0, w0, _, _⟩ := zd_a I
  have hW : ∀ v, v < n → (W v).length ≤ s := by
    intro v hv
    have := (zd_c I hv).length_le
    omega
  have A3 : ∀ v, 1 ≤ v → v < n → a3 v = nI (lk v) := fun v h0 hv => by
    rw [(M1 v hv).2]
    exact if_neg (by omega)
  have cl : ∀ v, v < n → (nI v).toNatClampNeg = v := fun v hv => nI_clamp (by omega)
  have main : ∀ (z : Nat) (b7 : Nat → Int32) (m : Nat → Nat), z ≤ s → (∀ v, v < n → b7 v = nI (m v)) → zd_J n lk a6 (zd_Q W z) m →
      wX_count_53 post (nI s) ft (nI n) fwh 0 sa (z + 1) (nI z) a1 a2 a3 a4 a5 a6 b7 a8 a9 a10 := by
    intro z
    induction z with
    | zero =>
      intro b7 m _ hm hJ
      refine pk_le 0 0 (fun _ => H b7 (fun v hv v0 => ⟨m v, ?_, ?_, hm v hv⟩)) (fun z => absurd z (by omega))
      · refine hJ.1 v hv v0 ?_
        by_cases e : a6 v = 0
        · exact Or.inl e
        · obtain ⟨u, u1, u2, u3⟩ := M2 v hv v0 e
          have := (zd_b I u1 u2).2.2
          exact Or.inr ⟨u, u1, u2, u3, decide_eq_true (by omega)⟩
      · have := hJ.2.1 v hv
        omega
    | succ z ih =>
      intro b7 m hz hm hJ
      refine pk_le (z + 1) 0 (fun z => absurd z (by omega)) (fun _ => ?_)
      refine pk_loop (fun f k b => wX_count_59 post (wX_count_53 post (nI s) ft (nI n) fwh 0 sa (z + 1)) (nI (z + 1)) (nI s) ft (nI n) fwh 0 sa f (nI k) a1 a2 a3 a4 a5 a6 b a8 a9 a10) (fun k b => 1 ≤ k ∧ ∃ m : Nat → Nat, (∀ v, v < n → b v = nI (m v)) ∧ zd_J n lk a6 (zd_Pz W (z + 1) k) m) n 1 b7 (by omega) ⟨Nat.le_refl 1, m, hm, zd_J_cg hJ ?_⟩ ?_ ?_
      · intro v hv
        refine decide_eq_decide.mpr ⟨fun y => ?_, fun y => Or.inl y⟩
        rcases y with y | y
        · exact y
        · have e : v = 0 := by omega
          rw [e, w0, List.length_nil] at y
          omega
      · intro f b hb
        obtain ⟨_, m', hm', hJ'⟩ := hb
        refine pk_le n n (fun _ => nm_r (pk_m1 z) (ih b m' (by omega) hm' (zd_J_cg hJ' ?_))) (fun z => absurd z (by omega))
        intro v hv
        exact decide_eq_decide.mpr (by omega)
      · intro f k b hk hb hw'
        obtain ⟨hk1, m', hm', hJ'⟩ := hb
        obtain ⟨b1, b2, b3⟩ := zd_b I hk (show k ≠ 0 by omega)
        have w1 := hW k hk
        refine pk_le n k (fun z => absurd z (by omega)) (fun _ => ⟨pk_in k 65 (by omega), ?_⟩)
        rw [cl k hk, A3 k hk1 hk, (M1 k hk).1, cl (lk k) b1]
        refine pk_eq (W k).length (z + 1) (fun e => ⟨pk_in k 65 (by omega), pk_in k 65 (by omega), pk_in (lk k) 65 (by omega), pk_in k 65 (by omega), pk_in (lk k) 65 (by omega), nm_e (nm_r (nI_1 k) (hw' _ ⟨by omega, fun v => if v = lk k then m' v + m' k else m' v, ?_, ?_⟩))⟩) (fun e => nm_r (nI_1 k) (hw' b ⟨by omega, m', hm', zd_J_cg hJ' ?_⟩))
        · intro v hv
          show upd b (lk k) (b (lk k) + b k) v = nI (if v = lk k then m' v + m' k else m' v)
          by_cases y : v = lk k
          · rw [if_pos y, y, pk_us, hm' _ b1, hm' k hk, nI_add]
          · rw [if_neg y, pk_un y]
            exact hm' v hv
        · refine zd_J_up hJ' hk b1 rfl (fun y => ?_) ?_ ?_ ?_ ?_ ?_ ?_ ?_
          · rw [← y] at b3
            omega
          · refine hJ'.1 k hk (by omega) ?_
            by_cases y : a6 k = 0
            · exact Or.inl y
            · obtain ⟨u, u1, u2, u3⟩ := M2 k hk (by omega) y
              have q := (zd_b I u1 u2).2.2
              rw [u3] at q
              exact Or.inr ⟨u, u1, u2, u3, decide_eq_true (by omega)⟩
          · exact decide_eq_false (by omega)
          · exact decide_eq_false (by omega)
          · exact decide_eq_true (by omega)
          · exact fun v hv vk => decide_eq_decide.mpr (by omega)
          · exact if_pos rfl
          · exact fun v hv vl => if_neg vl
        · intro v hv
          refine decide_eq_decide.mpr ⟨fun y => ?_, fun y => by omega⟩
          by_cases q : v = k
          · rw [q] at y ⊢
            omega
          · omega
  unfold wpX_count
  dsimp only
  refine br_t rfl ?_
  refine pk_loop (fun f k b => wX_count_10 post (nI s) ft (nI n) fwh 0 sa f (nI k) a1 a2 a3 a4 a5 a6 b a8 a9 a10) (fun k b => ∀ v, v < k → b v = nI (if a6 v = 0 ∧ v ≠ 0 then 1 else 0)) n 0 a7 (by omega) (fun v hv => absurd hv (by omega)) ?_ ?_
  · intro f b hb
    refine pk_le n n (fun _ => ⟨s + 1, main s b (fun v => if a6 v = 0 ∧ v ≠ 0 then 1 else 0) (Nat.le_refl s) hb ⟨?_, ?_, ?_⟩⟩) (fun z => absurd z (by omega))
    · intro v hv v0 y
      show 1 ≤ if a6 v = 0 ∧ v ≠ 0 then 1 else 0
      rcases y with y | ⟨u, u1, u2, u3, u4⟩
      · rw [if_pos ⟨y, v0⟩]
        exact Nat.le_refl 1
      · have q := of_decide_eq_true u4
        have := hW u u1
        omega
    · intro v hv
      show (if a6 v = 0 ∧ v ≠ 0 then 1 else 0) ≤ n
      by_cases y : a6 v = 0 ∧ v ≠ 0
      · rw [if_pos y]
        omega
      · rw [if_neg y]
        omega
    · refine zd_sm_bd n (fun v hv => ?_)
      by_cases q : zd_Q W s v = true
      · rw [if_pos q]
        omega
      · rw [if_neg q]
        show (if a6 v = 0 ∧ v ≠ 0 then 1 else 0) ≤ 1
        by_cases y : a6 v = 0 ∧ v ≠ 0
        · rw [if_pos y]
          omega
        · rw [if_neg y]
          omega
  · intro f k b hk hb hw'
    have fill : ∀ x : Int32, x = nI (if a6 k = 0 ∧ k ≠ 0 then 1 else 0) → ∀ v, v < k + 1 → upd b k x v = nI (if a6 v = 0 ∧ v ≠ 0 then 1 else 0) := by
      intro x hx v hv
      by_cases y : v = k
      · rw [y, pk_us, hx]
      · rw [pk_un y]
        exact hb v (by omega)
    refine pk_le n k (fun z => absurd z (by omega)) (fun _ => ⟨pk_in k 65 (by omega), ?_⟩)
    rw [cl k hk]
    refine br_c (fun e => pk_eq k 0 (fun e0 => ⟨pk_in k 65 (by omega), nm_e (nm_r (nI_1 k) (hw' _ (fill _ ?_)))⟩) (fun e0 => ⟨pk_in k 65 (by omega), nm_e (nm_r (nI_1 k) (hw' _ (fill _ ?_)))⟩)) (fun e => ⟨pk_in k 65 (by omega), nm_e (nm_r (nI_1 k) (hw' _ (fill _ ?_)))⟩)
    · rw [if_neg (fun y => y.2 e0)]
      rfl
    · rw [if_pos ⟨e, e0⟩]
      rfl
    · rw [if_neg (fun y => e y.1)]
      rfl
theorem zw_occ {post : Int32 → St1 → Prop} {s t : Nat} {lt tg : Nat → Nat} {fs ft fst fwh ct sa : Int32} {a1 a2 a3 a4 a5 a6 a7 a8 a9 a10 : Nat → Int32}
    (S : zd_S s t lt tg fs ft fst fwh ct a1 a2 a3 a5 a6 a10) (hf : zd_sg tg 0 t <:+: zd_sg lt 0 s)
    (H : ∀ (m : Nat) (cc : Int32) (b7 : Nat → Int32), 1 ≤ m → m ≤ 65 → post (nI m) (fs, ft, fst, fwh, cc, sa, a1, a2, a3, a4, a5, a6, b7, a8, a9, a10)) :
    wpX_occurrences post (fs, ft, fst, fwh, ct, sa, a1, a2, a3, a4, a5, a6, a7, a8, a9, a10) 0 (nI t) := by
  obtain ⟨hs, ht, rfl, rfl, rfl, h10, h1, M⟩ := S
  obtain ⟨n, h, W, lk, nx, hn, rfl, rfl, I, M1, M2, M3⟩ := M
  unfold wpX_occurrences
  dsimp only
  refine br_f (by decide) (br_f (nI_pos (by omega)) (pk_le t t (fun _ => pk_eq 0 t (fun z => ?_) (fun z => ?_)) (fun z => absurd z (by omega))))
  · rw [nI_1]
    exact H (s + 1) 0 a7 (by omega) (by omega)
  · refine pk_loop (fun f k v => wX_occurrences_36 post (nI t) (nI s) (nI t) (nI n) (nI h) 0 sa a1 a2 a3 a4 a5 a6 a7 a8 a9 a10 f v (nI k)) (fun k v => ∃ q, q < n ∧ v = nI q ∧ zd_cl W lk q (zd_sg tg 0 k)) t 0 0 (by omega) ⟨0, (zd_a I).1, rfl, List.nil_prefix, by rw [zd_mn0]; exact Nat.zero_le _⟩ ?_ ?_
    · intro f v hv
      obtain ⟨q, hq, rfl, hcl⟩ := hv
      refine pk_le t t (fun _ => ?_) (fun z => absurd z (by omega))
      have q0 : q ≠ 0 := by
        intro e
        have l := hcl.1.length_le
        rw [e, (zd_a I).2.1, zd_sg_len, List.length_nil] at l
        omega
      unfold wX_occurrences_69
      refine zw_count I (by omega) (zd_sg_len lt 0 s) hs M1 M2 (fun b7 hb => ?_)
      obtain ⟨m, m1, m2, m3⟩ := hb q hq q0
      dsimp only
      refine br_t (nI_pos' (by omega)) ⟨pk_in q 65 (by omega), ?_⟩
      rw [nI_clamp (by omega), m3]
      exact H m 1 b7 m1 m2
    · intro f k v hk hv hw
      obtain ⟨q, hq, rfl, hcl⟩ := hv
      obtain ⟨q1, q2⟩ := h1 k hk
      have hx : (tg k :: zd_sg tg 0 k) <:+: zd_sg lt 0 s := by
        have := (zd_sg_beg tg 0 (show k + 1 ≤ t by omega)).trans hf
        have e : zd_sg tg 0 (k + 1) = tg k :: zd_sg tg 0 k := by
          show tg (0 + k) :: zd_sg tg 0 k = tg k :: zd_sg tg 0 k
          rw [Nat.zero_add]
        rw [e] at this
        exact this
      have k0 : nx q (tg k) ≠ 0 := zd_e I hq q1 hcl hx
      have k1 := (zd_d I hq q1 k0).1
      have st := zd_step I hq q1 hcl k0
      have e : zd_sg tg 0 (k + 1) = tg k :: zd_sg tg 0 k := by
        show tg (0 + k) :: zd_sg tg 0 k = tg k :: zd_sg tg 0 k
        rw [Nat.zero_add]
      refine pk_le t k (fun z => absurd z (by omega)) (fun _ => br_f (nI_pos (by omega)) ?_)
      rw [nI_clamp (show k < 2 ^ 31 by omega), q2, zw_ixc (by omega) q1, M3 q _ hq q1, zd_cdn k0]
      exact ⟨pk_in k 24 (by omega), pk_in (q * 4 + tg k) 260 (by omega) (zw_ix _ _), nm_e (nm_r (nI_1 k) (hw _ ⟨_, k1, rfl, by rw [e]; exact st⟩))⟩
end
section
theorem zw_l330 {L s sz z : Nat} {xs : Nat → Int32} {kc ks : Nat} {l tg : Nat → Nat} {fs ft fst fwh ct sa : Int32} {a1 a2 a3 a4 a5 a6 a7 a8 a9 a10 : Nat → Int32}
    (S : zd_S s sz l tg fs ft fst fwh ct a1 a2 a3 a5 a6 a10) (hf : zd_sg tg 0 sz <:+: zd_sg l 0 s) :
    wL_law_330 (fun r => r = 1) L xs (nI sz) (nI z) (nI z) kc ks fs ft fst fwh ct sa a1 a2 a3 a4 a5 a6 a7 a8 a9 a10 := by
  unfold wL_law_330
  refine br_t rfl (zw_occ S hf (fun m cc b7 m1 m2 => ?_))
  dsimp only
  exact pk_lt m 1 (fun z => absurd z (by omega)) (fun _ => zw_longest S hf (fun sa' => br_t rfl rfl))
theorem zw_one {w : List Nat} {tg : Nat → Nat} {sz : Nat} (hf : zd_sg tg 0 sz <:+: w) : zd_C (zd_N w tg sz) sz 0 = if sz = 0 then 0 else 1 := by
  by_cases e : sz = 0
  · rw [if_pos e, zd_C0 (by omega)]
  · have l1 := zd_L1 w tg sz 0
    have l2 := zd_L4 (w := w) (f := tg) (t := sz) (i := 0) (k := sz) (by omega) hf
    have n1 : zd_N w tg sz 0 = sz := by
      unfold zd_N
      rw [if_neg (by omega)]
      omega
    rw [if_neg e, zd_C1 (fun i hi => zd_N1 hi) (show 0 < sz by omega), n1, zd_C0 (Nat.le_refl sz)]
theorem zw_l284 {L s t fr sz : Nat} {xs : Nat → Int32} {kc ks : Nat} {l tg : Nat → Nat} {fs ft fst fwh ct sa : Int32} {a1 a2 a3 a4 a5 a6 a7 a8 a9 a10 : Nat → Int32}
    (S : zd_S (s + t) 0 l tg fs ft fst fwh ct a1 a2 a3 a5 a6 a10) (ht : t ≤ 24) (h : fr + sz ≤ t) :
    wL_law_284 (fun r => r = 1) L xs (nI s) (nI t) (nI (s + t)) (nI fr) (nI sz) kc ks fs ft fst fwh ct sa a1 a2 a3 a4 a5 a6 a7 a8 a9 a10 := by
  unfold wL_law_284
  rw [nI_add s fr]
  refine zw_quote S (k := s + fr) (m := sz) (by omega) (fun z b1 S' => ?_) (fun z => absurd z (by omega))
  rw [Nat.zero_add] at S'
  rw [Nat.zero_add]
  dsimp only
  have hf : zd_sg (zd_qt 0 (s + fr) l tg) 0 sz <:+: zd_sg l 0 (s + t) := by
    rw [zd_sg_eq (g := l) (j := s + fr) sz (fun a ha => ?_)]
    · exact zd_sg_sub l (by omega)
    · unfold zd_qt
      rw [if_neg (by omega)]
      congr 1
      omega
  refine br_t (nI_add s t).symm (br_t rfl (zw_pieces S' (fun sa' => ?_)))
  dsimp only
  rw [zw_one hf]
  refine pk_le sz 0 (fun z => ?_) (fun z => ?_)
  · rw [if_pos (by omega)]
    exact zw_l330 S' hf
  · rw [if_neg (by omega)]
    exact zw_l330 S' hf
theorem zw_l259 {L s t fr : Nat} {xs : Nat → Int32} {x2 : Int32} {kc ks : Nat} {l tg : Nat → Nat} {fs ft fst fwh ct sa : Int32} {a1 a2 a3 a4 a5 a6 a7 a8 a9 a10 : Nat → Int32}
    (S : zd_S (s + t) 0 l tg fs ft fst fwh ct a1 a2 a3 a5 a6 a10) (ht : t ≤ 24) (h : fr ≤ t) :
    wL_law_259 (fun r => r = 1) L xs x2 (nI s) (nI t) (nI (s + t)) (nI fr) kc ks fs ft fst fwh ct sa a1 a2 a3 a4 a5 a6 a7 a8 a9 a10 := by
  obtain ⟨j, hj, ej⟩ := pk_andE (x2 >>> ((5 : Int32) &&& 31)) (m := 31) 5 (by decide)
  have m2 : j % (t - fr + 1) < t - fr + 1 := Nat.mod_lt _ (by omega)
  unfold wL_law_259
  rw [ej, pk_sub h, nI_1]
  refine pk_eq t 0 (fun e => ?_) (fun e => ⟨nI_ne0 (by omega) (by omega), ?_⟩)
  · exact zw_l284 (sz := 0) S ht (by omega)
  · rw [pk_rem (by omega) (by omega) (by omega)]
    exact zw_l284 S ht (by omega)
theorem zw_l128 {L s t : Nat} {xs : Nat → Int32} {x2 : Int32} {kc ks : Nat} {lt tg : Nat → Nat} {fs ft fst fwh ct sa : Int32} {a1 a2 a3 a4 a5 a6 a7 a8 a9 a10 : Nat → Int32}
    (S : zd_S s t lt tg fs ft fst fwh ct a1 a2 a3 a5 a6 a10) :
    ∃ f, wL_law_128 (fun r => r = 1) L xs x2 (nI (s + 64 * t)) (nI s) (nI t) (nI (zd_C (zd_N (zd_sg lt 0 s) tg t) t 0)) (nI t) kc ks fs ft fst fwh ct sa a1 a2 a3 a4 a5 a6 a7 a8 a9 a10 f 0 1 := by
  have S0 := S
  obtain ⟨hs, ht, e1, e2, e3, _, _, _⟩ := S
  obtain ⟨G, g0, G1, G2⟩ := zw_words S0
  have lp := pk_loop (σ := Unit) (fun f k _ => wL_law_128 (fun r => r = 1) L xs x2 (nI (s + 64 * t)) (nI s) (nI t) (nI (zd_C (zd_N (zd_sg lt 0 s) tg t) t 0)) (nI t) kc ks fs ft fst fwh ct sa a1 a2 a3 a4 a5 a6 a7 a8 a9 a10 f (nI (zd_sm G k)) (nI k)) (fun _ _ => True) 33 1 () (by omega) trivial (by
      intro f _ _
      refine pk_le 33 33 (fun _ => ?_) (fun z => absurd z (by omega))
      unfold wpX_fewest
      refine zw_pieces S0 (fun sa1 => br_t rfl (zw_cheap S0 (fun sa2 b9 => br_t rfl (br_t rfl (G2 _ _ _ _ _ _ _ (br_t rfl (zw_plen S0 (Nat.le_refl _) (fun z => absurd z (by omega)) (fun _ sa3 => br_t rfl (zw_accept S0 (fun z gst gwh b2 b3 b4 b5 b6 b10 S' => ?_) (fun z => ?_))))))))))
      · refine br_t (nI_pos' (by omega)) (pk_eq t 0 (fun e => ?_) (fun e => ⟨nI_ne0 (by omega) (by omega), ?_⟩))
        · exact zw_l259 (fr := 0) S' ht (by omega)
        · obtain ⟨j, hj, ej⟩ := pk_andE x2 (m := 31) 5 (by decide)
          have m2 : j % t < t := Nat.mod_lt _ (by omega)
          rw [ej, pk_rem (by omega) (by omega) (by omega)]
          exact zw_l259 S' ht (by omega)
      · refine br_f (by decide) (br_t rfl (pk_le (s + t) 32 (fun z => absurd z (by omega)) (fun _ => ?_) (nI_add s t)))
        unfold wpX_lengths
        dsimp only
        rw [e1, e2, zw_len]
        exact br_t rfl rfl) (by
      intro f k _ hk _ hw
      exact pk_le 33 k (fun z => absurd z (by omega)) (fun _ => G1 _ k _ _ _ _ _ _ (by omega) (nm_r (nI_add _ _) (nm_r (nI_1 k) (hw () trivial)))))
  obtain ⟨f, hf⟩ := lp
  refine ⟨f, ?_⟩
  have e : zd_sm G 1 = 0 := by
    show 0 + G 0 = 0
    omega
  rw [e] at hf
  exact hf
theorem zw_l79 {L s t : Nat} {xs : Nat → Int32} {x2 : Int32} {kc ks : Nat} {lt tg : Nat → Nat} {fs ft fst fwh ct sa : Int32} {a1 a2 a3 a4 a5 a6 a7 a8 a9 a10 : Nat → Int32}
    (S : zd_S s t lt tg fs ft fst fwh ct a1 a2 a3 a5 a6 a10) :
    ∃ f, wL_law_79 (fun r => r = 1) L xs x2 (nI (s + 64 * t)) (nI s) (nI t) (nI (zd_C (zd_N (zd_sg lt 0 s) tg t) t 0)) kc ks f 0 0 fs ft fst fwh ct sa a1 a2 a3 a4 a5 a6 a7 a8 a9 a10 := by
  have S0 := S
  obtain ⟨hs, ht, _, _, _, _, _, _⟩ := S
  have N1 : ∀ i, i < t → i < zd_N (zd_sg lt 0 s) tg t i ∧ zd_N (zd_sg lt 0 s) tg t i ≤ t := fun i hi => zd_N1 hi
  have cl := zd_C_le (N := zd_N (zd_sg lt 0 s) tg t) (t := t) 0
  refine pk_loop (fun f p v => wL_law_79 (fun r => r = 1) L xs x2 (nI (s + 64 * t)) (nI s) (nI t) (nI (zd_C (zd_N (zd_sg lt 0 s) tg t) t 0)) kc ks f (nI (zd_P (zd_N (zd_sg lt 0 s) tg t) p)) (nI p) fs ft fst fwh ct v a1 a2 a3 a4 a5 a6 a7 a8 a9 a10) (fun _ _ => True) (zd_C (zd_N (zd_sg lt 0 s) tg t) t 0) 0 sa (by omega) trivial ?_ ?_
  · intro f v _
    rw [zd_PK N1]
    exact pk_le 24 _ (fun _ => zw_l128 S0) (fun _ => pk_le (zd_C (zd_N (zd_sg lt 0 s) tg t) t 0) (zd_C (zd_N (zd_sg lt 0 s) tg t) t 0) (fun _ => zw_l128 S0) (fun z => absurd z (by omega)))
  · intro f p v hp _ hw
    refine pk_le 24 p (fun z => absurd z (by omega)) (fun _ => pk_le (zd_C (zd_N (zd_sg lt 0 s) tg t) t 0) p (fun z => absurd z (by omega)) (fun _ => zw_plen S0 (by omega) (fun _ m sa' m1 m2 m3 => ?_) (fun z => absurd z (by omega))))
    have hw' := hw sa' trivial
    rw [← m3] at hw'
    exact pk_le 1 m (fun _ => nm_r (nI_add _ _) (nm_r (nI_1 p) hw')) (fun z => absurd z (by omega))
theorem zw_l23 {L : Nat} (hL : L ≤ 260) (xs : Nat → Int32) (x2 : Int32) (kc ks : Nat) :
    ∀ (f k : Nat) (fs ft fst fwh ct sa : Int32) (a1 a2 a3 a4 a5 a6 a7 a8 a9 a10 : Nat → Int32), L ≤ k + f → 1 ≤ f → k ≤ L + 1 → zd_V (fs, ft, fst, fwh, ct, sa, a1, a2, a3, a4, a5, a6, a7, a8, a9, a10) →
      wL_law_23 (fun r => r = 1) L xs x2 kc ks f (nI k) fs ft fst fwh ct sa a1 a2 a3 a4 a5 a6 a7 a8 a9 a10 := by
  intro f
  induction f with
  | zero =>
    intro k fs ft fst fwh ct sa a1 a2 a3 a4 a5 a6 a7 a8 a9 a10 _ h
    omega
  | succ f ih =>
    intro k fs ft fst fwh ct sa a1 a2 a3 a4 a5 a6 a7 a8 a9 a10 h1 _ h3 hV
    refine pk_le L (k + 1) (fun z => ?_) (fun z => ⟨pk_in k L (by omega), pk_in (k + 1) L (by omega) (nI_1 k), zw_turn hV _ _ (fun r u hu => ?_)⟩) rfl (nI_1 k)
    · obtain ⟨s, t, lt, tg, S⟩ := hV
      have S0 := S
      obtain ⟨hs, ht, rfl, rfl, _, _, _, _⟩ := S
      unfold wpX_lengths
      dsimp only
      rw [zw_len, zw_len6 hs ht, zw_lenT hs ht]
      exact nm_e (nm_e (zw_pieces S0 (fun sa' => zw_l79 S0)))
    · obtain ⟨gs, gt, gst, gwh, gc, ga, b1, b2, b3, b4, b5, b6, b7, b8, b9, b10⟩ := u
      dsimp only
      exact nm_r (nI_add k 2) (ih (k + 2) _ _ _ _ _ _ _ _ _ _ _ _ _ _ _ _ (by omega) (by omega) (by omega) hu)
end
section
theorem i_vc (xs : Nat → Int32) (L : Nat) (hL : L ≤ 260) : wpL_law (fun r => r = 1) L xs := by
  unfold wpL_law
  refine ⟨10, 731, by omega, by omega, ?_⟩
  unfold wpX_init
  dsimp only
  refine ⟨by omega, by omega, by omega, by omega, by omega, by omega, by omega, by omega, by omega, by omega, by omega, by omega, by omega, by omega, by omega, by omega, by omega, by omega, by omega, by omega, zw_reset (fun gst gwh b2 b3 b5 b6 M => ?_)⟩
  dsimp only
  have go : ∀ (x2 : Int32) (sa : Int32) (a1 a4 a7 a8 a9 a10 : Nat → Int32), ∃ f, wL_law_23 (fun r => r = 1) L xs x2 (1 + 10) (16 + 731) f 1 0 0 gst gwh 0 sa a1 b2 b3 a4 b5 b6 a7 a8 a9 a10 := fun x2 sa a1 a4 a7 a8 a9 a10 =>
    ⟨L + 1, zw_l23 hL xs x2 _ _ (L + 1) 1 _ _ _ _ _ _ _ _ _ _ _ _ _ _ _ _ (by omega) (by omega) (by omega) ⟨0, 0, fun _ => 0, fun _ => 0, by omega, by omega, rfl, rfl, rfl, fun i hi => absurd hi (by omega), fun i hi => absurd hi (by omega), M⟩⟩
  exact pk_le L 0 (fun _ => go _ _ _ _ _ _ _ _) (fun z => ⟨pk_in 0 L z, nm_e (go _ _ _ _ _ _ _ _)⟩)
end
