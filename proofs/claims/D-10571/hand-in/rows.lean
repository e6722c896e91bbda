section
/-- a shape: three rows, none longer than the one above, six cells at most -/
def qd_sh (x : Int32) : Prop := ∃ p q r : Nat, r ≤ q ∧ q ≤ p ∧ p + q + r ≤ 6 ∧ x = nI (100 * p + 10 * q + r)
/-- a content, by the tests themselves -/
def qd_ct (x : Int32) : Prop := ¬ x < 0 ∧ ¬ 666 < x ∧ ¬ 6 < ((x / 10) - (x / 10) / 10 * 10) ∧ ¬ 6 < (x - x / 10 * 10)
theorem qd_m (x : Int32) : x + (-1) = x - 1 := (Int32.sub_eq_add_neg x 1).symm
theorem qd_h {j : Nat} (h : j < 2 ^ 31) : nI j / 100 = nI (j / 100) := pk_div (d := 100) h (by decide) (by decide)
theorem qd_t {j : Nat} (h : j < 2 ^ 31) : nI j / 10 - nI j / 10 / 10 * 10 = nI (j / 10 % 10) := by
  have e : nI j / 10 = nI (j / 10) := pk_div (d := 10) h (by decide) (by decide)
  rw [e]
  exact pk_rem (d := 10) (by omega) (by decide) (by decide)
theorem qd_u {j : Nat} (h : j < 2 ^ 31) : nI j - nI j / 10 * 10 = nI (j % 10) := pk_rem (d := 10) h (by decide) (by decide)
theorem qd_dh {p q r : Nat} (h : p + q + r ≤ 6) : nI (100 * p + 10 * q + r) / 100 = nI p := by
  rw [qd_h (by omega), show (100 * p + 10 * q + r) / 100 = p by omega]
theorem qd_dt {p q r : Nat} (h : p + q + r ≤ 6) : nI (100 * p + 10 * q + r) / 10 - nI (100 * p + 10 * q + r) / 10 / 10 * 10 = nI q := by
  rw [qd_t (by omega), show (100 * p + 10 * q + r) / 10 % 10 = q by omega]
theorem qd_du {p q r : Nat} (h : p + q + r ≤ 6) : nI (100 * p + 10 * q + r) - nI (100 * p + 10 * q + r) / 10 * 10 = nI r := by
  rw [qd_u (by omega), show (100 * p + 10 * q + r) % 10 = r by omega]
theorem qd_neg {x : Int32} (g : x < 0) : ¬ qd_sh x := by
  rintro ⟨p, q, r, h1, h2, h3, rfl⟩
  exact nI_pos (by omega) g
theorem qd_shN {j : Nat} (hj : j < 2 ^ 31) : qd_sh (nI j) ↔ (j / 10 % 10 ≤ j / 100 ∧ j % 10 ≤ j / 10 % 10 ∧ j / 100 + j / 10 % 10 + j % 10 ≤ 6) := by
  constructor
  · rintro ⟨p, q, r, h1, h2, h3, e⟩
    have e' : j = 100 * p + 10 * q + r := (nI_eq hj (by omega)).mp e
    refine ⟨?_, ?_, ?_⟩ <;> omega
  · rintro ⟨h1, h2, h3⟩
    exact ⟨j / 100, j / 10 % 10, j % 10, h2, h1, h3, by rw [show 100 * (j / 100) + 10 * (j / 10 % 10) + j % 10 = j by omega]⟩
theorem qd_sz {post : Int32 → Prop} {x : Int32} (h : post (((x / 100) + ((x / 10) - (x / 10) / 10 * 10)) + (x - x / 10 * 10))) : wpX_size post () x := by
  unfold wpX_size
  exact ⟨by decide, by decide, by decide, by decide, h⟩
theorem qd_size {post : Int32 → Prop} {j : Nat} (hj : j < 2 ^ 31) (h : post (nI (j / 100 + j / 10 % 10 + j % 10))) : wpX_size post () (nI j) := by
  refine qd_sz ?_
  rw [qd_h hj, qd_t hj, qd_u hj, nI_add, nI_add]
  exact h
theorem qd_sizeS {post : Int32 → Prop} {p q r : Nat} (h6 : p + q + r ≤ 6) (h : post (nI (p + q + r))) : wpX_size post () (nI (100 * p + 10 * q + r)) := by
  refine qd_sz ?_
  rw [qd_dh h6, qd_dt h6, qd_du h6, nI_add, nI_add]
  exact h
theorem qd_xsh {post : Int32 → Prop} {x : Int32} (h1 : qd_sh x → post 1) (h0 : ¬ qd_sh x → post 0) : wpX_isShape post () x := by
  unfold wpX_isShape
  refine br_c (fun g => h0 (qd_neg g)) (fun g => br_c (fun g6 => ?_) (fun g6 => h0 ?_))
  · obtain ⟨j, hj, rfl⟩ := nI_of2 (n := 600) (by decide) g g6
    have hj' : j < 2 ^ 31 := by omega
    have E := qd_shN hj'
    rw [qd_h hj', qd_t hj', qd_u hj']
    refine ⟨by decide, by decide, nm_e ⟨by decide, pk_lt (j / 100) (j / 10 % 10) (fun z => h0 (fun s => ?_)) (fun z => ⟨by decide, pk_lt (j / 10 % 10) (j % 10) (fun z2 => h0 (fun s => ?_)) (fun z2 => qd_size hj' (pk_lt 6 (j / 100 + j / 10 % 10 + j % 10) (fun z3 => h0 (fun s => ?_)) (fun z3 => h1 (E.mpr ⟨z, z2, z3⟩))))⟩)⟩⟩
    · have := E.mp s
      omega
    · have := E.mp s
      omega
    · have := E.mp s
      omega
  · rintro ⟨p, q, r, a, b, c, e⟩
    exact g6 (by rw [e]; exact nI_le (b := 600) (by omega) (by decide))
theorem qd_lsh {post : Int32 → Prop} {x : Int32} (h1 : qd_sh x → post 1) (h0 : ¬ qd_sh x → post 0) : wpL_isShape post () x := by
  unfold wpL_isShape
  refine ⟨by decide, nm_e ⟨by decide, by decide, nm_e ⟨by decide, nm_e ?_⟩⟩⟩
  refine br_c (fun g => h0 (qd_neg g)) (fun g => ?_)
  obtain ⟨j, hj, rfl⟩ := nI_of g
  have E := qd_shN hj
  rw [qd_h hj, qd_t hj, qd_u hj, nI_add, nI_add]
  refine pk_lt (j / 100) (j / 10 % 10) (fun z => h0 (fun s => ?_)) (fun z => pk_lt (j / 10 % 10) (j % 10) (fun z2 => h0 (fun s => ?_)) (fun z2 => pk_lt 6 (j / 100 + j / 10 % 10 + j % 10) (fun z3 => h0 (fun s => ?_)) (fun z3 => h1 (E.mpr ⟨z, z2, z3⟩))))
  · have := E.mp s
    omega
  · have := E.mp s
    omega
  · have := E.mp s
    omega
theorem qd_isct {post : Int32 → Prop} {x : Int32} (h1 : qd_ct x → post 1) (h0 : ¬ qd_ct x → post 0) : wpX_isContent post () x := by
  unfold wpX_isContent
  exact br_c (fun g => h0 (fun s => s.1 g)) (fun g0 => br_c (fun g => h0 (fun s => s.2.1 g)) (fun g1 => ⟨by decide, by decide, br_c (fun g => h0 (fun s => s.2.2.1 g)) (fun g2 => ⟨by decide, br_c (fun g => h0 (fun s => s.2.2.2 g)) (fun g3 => h1 ⟨g0, g1, g2, g3⟩)⟩)⟩))
end
section
/-- the first n cells: row R, place P, no number yet -/
def qd_cl (R P : Nat → Nat) (n : Nat) (a4 a5 a6 : Nat → Int32) : Prop := ∀ j, j < n → a4 j = nI (R j) ∧ a5 j = nI (P j) ∧ a6 j = 0
def qd_R (d0 d1 : Nat) (j : Nat) : Nat := if j < d0 then 0 else if j < d0 + d1 then 1 else 2
def qd_P (k0 k1 k2 d0 d1 d2 : Nat) (j : Nat) : Nat := if j < d0 then k0 + (d0 - 1 - j) else if j < d0 + d1 then k1 + (d0 + d1 - 1 - j) else k2 + (d0 + d1 + d2 - 1 - j)
theorem qd_cl_add {R P : Nat → Nat} {n : Nat} {a4 a5 a6 : Nat → Int32} (h : qd_cl R P n a4 a5 a6) {x y : Int32} (hx : x = nI (R n)) (hy : y = nI (P n)) : qd_cl R P (n + 1) (upd a4 n x) (upd a5 n y) (upd a6 n 0) := by
  intro j hj
  by_cases e : j = n
  · subst e
    rw [pk_us, pk_us, pk_us]
    exact ⟨hx, hy, rfl⟩
  · rw [pk_un e, pk_un e, pk_un e]
    exact h j (by omega)
theorem qd_plt : ∀ k, k < 7 → nI k - 1 < nI k := by decide +kernel
theorem qd_fill0 {s : Nat → Int32} {i k : Nat} (hk : k = i) (h : ∀ j, j < i → s j = 0) : ∀ j, j < i + 1 → upd s k 0 j = 0 := by
  intro j hj
  rw [hk]
  by_cases e : j = i
  · rw [e, pk_us]
  · rw [pk_un e]
    exact h j (by omega)
theorem qd_lc21 {post : St2 → Prop} {J7 : Int32 → Int32 → (Nat → Int32) → (Nat → Int32) → (Nat → Int32) → (Nat → Int32) → (Nat → Int32) → (Nat → Int32) → (Nat → Int32) → Prop} {R P : Nat → Nat} {i k : Nat} {a1 a2 a3 a7 : Nat → Int32} (hi : i < 3) (hk : a1 i = nI k) (hk6 : k ≤ 6) :
    ∀ (d c : Nat) (a4 a5 a6 : Nat → Int32), c + d ≤ 6 → (∀ t, t < d → R (c + t) = i ∧ P (c + t) = k + (d - 1 - t)) → qd_cl R P c a4 a5 a6 →
      (∀ a4' a5' a6', qd_cl R P (c + d) a4' a5' a6' → J7 (nI (i + 1)) (nI (c + d)) a1 a2 a3 a4' a5' a6' a7) → wX_listCells_21 post J7 (nI i) (d + 1) (nI (k + d) - 1) (nI c) a1 a2 a3 a4 a5 a6 a7 := by
  intro d
  induction d with
  | zero =>
    intro c a4 a5 a6 hc ht hcl H
    refine And.intro (pk_in i 3 hi) (br_t ?_ (nm_r (nI_1 i) (H a4 a5 a6 hcl)))
    rw [nI_clamp (show i < 2 ^ 31 by omega), hk]
    exact qd_plt k (by omega)
  | succ d ih =>
    intro c a4 a5 a6 hc ht hcl H
    have e0 := ht 0 (by omega)
    have eR : R c = i := e0.1
    have eP : P c = k + d := by
      have z : P c = k + (d + 1 - 1 - 0) := e0.2
      rw [z]
      omega
    rw [show nI (k + (d + 1)) - 1 = nI (k + d) from nI_pred (k + d)]
    refine And.intro (pk_in i 3 hi) (br_f ?_ ⟨pk_in c 6 (by omega), nm_e ⟨pk_in c 6 (by omega), nm_e ⟨pk_in c 6 (by omega), nm_e (nm_r (nI_1 c) (nm_r (qd_m _) ?_))⟩⟩⟩)
    · rw [nI_clamp (show i < 2 ^ 31 by omega), hk]
      exact nI_nlt (by omega) (by omega)
    · rw [nI_clamp (show c < 2 ^ 31 by omega)]
      refine ih (c + 1) _ _ _ (by omega) (fun t h => ?_) (qd_cl_add hcl (by rw [eR]) (by rw [eP])) ?_
      · have z := ht (t + 1) (by omega)
        rw [show c + (t + 1) = c + 1 + t by omega, show d + 1 - 1 - (t + 1) = d - 1 - t by omega] at z
        exact z
      · rw [show c + 1 + d = c + (d + 1) by omega]
        exact H
theorem qd_lc85 {post : St2 → Prop} {f : Int32} {a1 a2 a3 a4 a5 a6 a7 : Nat → Int32} (H : ∀ a7', (∀ j, j < 4 → a7' j = 0) → post (f, a1, a2, a3, a4, a5, a6, a7')) : ∃ n, wX_listCells_85 post f n 0 a1 a2 a3 a4 a5 a6 a7 :=
  pk_loop (fun n i s => wX_listCells_85 post f n (nI i) a1 a2 a3 a4 a5 a6 s) (fun i s => ∀ j, j < i → s j = 0) 4 0 a7 (by omega) (fun j hj => absurd hj (by omega))
    (fun n s h => pk_le 4 4 (fun _ => H s h) (fun z => absurd z (by omega)))
    (fun n i s hi h hw => pk_le 4 i (fun z => absurd z (by omega)) (fun _ => ⟨pk_in i 4 hi, nm_e (nm_r (nI_1 i) (hw _ (qd_fill0 (nI_clamp (by omega)) h)))⟩))
theorem qd_listCells {post : St2 → Prop} {k0 k1 k2 d0 d1 d2 : Nat} {f : Int32} {a1 a2 a3 a4 a5 a6 a7 : Nat → Int32} (hd : d0 + d1 + d2 ≤ 6) (hk : k0 + k1 + k2 ≤ 6)
    (e0 : a1 0 = nI k0) (e1 : a1 1 = nI k1) (e2 : a1 2 = nI k2) (g0 : a2 0 = nI (k0 + d0)) (g1 : a2 1 = nI (k1 + d1)) (g2 : a2 2 = nI (k2 + d2))
    (H : ∀ a4' a5' a6' a7', qd_cl (qd_R d0 d1) (qd_P k0 k1 k2 d0 d1 d2) (d0 + d1 + d2) a4' a5' a6' → (∀ j, j < 4 → a7' j = 0) → post (nI (d0 + d1 + d2), a1, a2, a3, a4', a5', a6', a7')) :
    wpX_listCells post (f, a1, a2, a3, a4, a5, a6, a7) := by
  have L3 : ∀ n a4 a5 a6, qd_cl (qd_R d0 d1) (qd_P k0 k1 k2 d0 d1 d2) (d0 + d1 + d2) a4 a5 a6 → wX_listCells_7 post (n + 1) (nI 3) (nI (d0 + d1 + d2)) a1 a2 a3 a4 a5 a6 a7 :=
    fun n a4 a5 a6 h => pk_le 3 3 (fun _ => qd_lc85 (fun a7' h7 => H a4 a5 a6 a7' h h7)) (fun z => absurd z (by omega))
  have L2 : ∀ n a4 a5 a6, qd_cl (qd_R d0 d1) (qd_P k0 k1 k2 d0 d1 d2) (d0 + d1) a4 a5 a6 → wX_listCells_7 post (n + 1 + 1) (nI 2) (nI (d0 + d1)) a1 a2 a3 a4 a5 a6 a7 := by
    intro n a4 a5 a6 h
    refine pk_le 3 2 (fun z => absurd z (by omega)) (fun _ => ⟨pk_in 2 3 (by omega), nm_r (e' := nI (k2 + d2) - 1) (by rw [nI_clamp (by omega), g2]) ⟨d2 + 1, ?_⟩⟩)
    refine qd_lc21 (i := 2) (by omega) e2 (by omega) d2 (d0 + d1) a4 a5 a6 hd (fun t ht => ⟨?_, ?_⟩) h (fun a4' a5' a6' h' => L3 n a4' a5' a6' h')
    · unfold qd_R
      rw [if_neg (by omega), if_neg (by omega)]
    · unfold qd_P
      rw [if_neg (by omega), if_neg (by omega)]
      omega
  have L1 : ∀ n a4 a5 a6, qd_cl (qd_R d0 d1) (qd_P k0 k1 k2 d0 d1 d2) d0 a4 a5 a6 → wX_listCells_7 post (n + 1 + 1 + 1) (nI 1) (nI d0) a1 a2 a3 a4 a5 a6 a7 := by
    intro n a4 a5 a6 h
    refine pk_le 3 1 (fun z => absurd z (by omega)) (fun _ => ⟨pk_in 1 3 (by omega), nm_r (e' := nI (k1 + d1) - 1) (by rw [nI_clamp (by omega), g1]) ⟨d1 + 1, ?_⟩⟩)
    refine qd_lc21 (i := 1) (by omega) e1 (by omega) d1 d0 a4 a5 a6 (by omega) (fun t ht => ⟨?_, ?_⟩) h (fun a4' a5' a6' h' => L2 n a4' a5' a6' h')
    · unfold qd_R
      rw [if_neg (by omega), if_pos (by omega)]
    · unfold qd_P
      rw [if_neg (by omega), if_pos (by omega)]
      omega
  have L0 : ∀ n a4 a5 a6, wX_listCells_7 post (n + 1 + 1 + 1 + 1) (nI 0) (nI 0) a1 a2 a3 a4 a5 a6 a7 := by
    intro n a4 a5 a6
    refine pk_le 3 0 (fun z => absurd z (by omega)) (fun _ => ⟨pk_in 0 3 (by omega), nm_r (e' := nI (k0 + d0) - 1) (by rw [nI_clamp (by omega), g0]) ⟨d0 + 1, ?_⟩⟩)
    refine qd_lc21 (R := qd_R d0 d1) (P := qd_P k0 k1 k2 d0 d1 d2) (i := 0) (by omega) e0 (by omega) d0 0 a4 a5 a6 (by omega) (fun t ht => ⟨?_, ?_⟩) (fun j hj => absurd hj (by omega)) ?_
    · unfold qd_R
      rw [if_pos (by omega)]
    · unfold qd_P
      rw [if_pos (by omega)]
      omega
    · rw [Nat.zero_add]
      exact fun a4' a5' a6' h' => L1 n a4' a5' a6' h'
  unfold wpX_listCells
  exact ⟨0 + 1 + 1 + 1 + 1, L0 0 a4 a5 a6⟩
end
section
/-- cell k forbids x at cell m -/
abbrev qd_bad (R P U : Nat → Nat) (m x k : Nat) : Prop := ((R k = R m ∧ P k = P m + 1) ∧ U k < x) ∨ ((R k + 1 = R m ∧ P k = P m) ∧ x ≤ U k)
theorem qd_pr {a b : Nat} (ha : a < 2 ^ 31) (hb : b < 2 ^ 31) : nI a = nI b - 1 ↔ a + 1 = b := by
  cases b with
  | zero =>
    constructor
    · intro e
      have z : nI a < 0 := by
        rw [e]
        decide
      exact absurd z (nI_pos ha)
    · intro e
      omega
  | succ b =>
    rw [nI_pred, nI_eq ha (by omega)]
    omega
theorem qd_f83 {post J2 : Int32 → Prop} {x1 y4 y5 : Int32} {x k u : Nat} {rt ab : Prop} {f : Int32} {a1 a2 a3 a4 a5 a6 a7 : Nat → Int32} (hk : k < 6) (hx : x ≤ 3) (hu : u ≤ 3) (e6 : a6 k = nI u)
    (h4 : (y4 = 1 ∧ rt) ∨ (y4 = 0 ∧ ¬ rt)) (h5 : (y5 = 1 ∧ ab) ∨ (y5 = 0 ∧ ¬ ab)) (H0 : (rt ∧ u < x) ∨ (ab ∧ x ≤ u) → post 0) (HJ : ¬ ((rt ∧ u < x) ∨ (ab ∧ x ≤ u)) → J2 (nI (k + 1))) :
    wX_fitsBeside_83 post J2 x1 (nI x) (nI k) y4 y5 f a1 a2 a3 a4 a5 a6 a7 := by
  have T : (rt → ¬ u < x) → wX_fitsBeside_100 post J2 x1 (nI x) (nI k) y5 f a1 a2 a3 a4 a5 a6 a7 := by
    intro hr
    unfold wX_fitsBeside_100
    rw [nI_clamp (show k < 2 ^ 31 by omega), e6]
    rcases h5 with ⟨rfl, hb⟩ | ⟨rfl, hb⟩
    · exact br_f (by decide) ⟨pk_in k 6 hk, pk_lt u x (fun z => nm_r (nI_1 k) (HJ (fun t => t.elim (fun t => hr t.1 t.2) (fun t => absurd t.2 (by omega))))) (fun z => H0 (Or.inr ⟨hb, z⟩))⟩
    · exact br_t rfl (nm_r (nI_1 k) (HJ (fun t => t.elim (fun t => hr t.1 t.2) (fun t => hb t.1))))
  unfold wX_fitsBeside_83
  rw [nI_clamp (show k < 2 ^ 31 by omega), e6]
  rcases h4 with ⟨rfl, hb⟩ | ⟨rfl, hb⟩
  · exact br_f (by decide) ⟨pk_in k 6 hk, pk_lt u x (fun z => H0 (Or.inl ⟨hb, z⟩)) (fun z => T (fun _ => by omega))⟩
  · exact br_t rfl (T (fun h => absurd h hb))
theorem qd_f44 {post J2 : Int32 → Prop} {y4 : Int32} {R P : Nat → Nat} {m x k u : Nat} {rt : Prop} {f : Int32} {a1 a2 a3 a4 a5 a6 a7 : Nat → Int32} (hk : k < 6) (hm : m < 6) (hx : x ≤ 3) (hu : u ≤ 3) (e6 : a6 k = nI u)
    (e4k : a4 k = nI (R k)) (e4m : a4 m = nI (R m)) (e5k : a5 k = nI (P k)) (e5m : a5 m = nI (P m)) (bRk : R k ≤ 2) (bRm : R m ≤ 2) (bPk : P k ≤ 12) (bPm : P m ≤ 12)
    (h4 : (y4 = 1 ∧ rt) ∨ (y4 = 0 ∧ ¬ rt)) (H0 : (rt ∧ u < x) ∨ ((R k + 1 = R m ∧ P k = P m) ∧ x ≤ u) → post 0) (HJ : ¬ ((rt ∧ u < x) ∨ ((R k + 1 = R m ∧ P k = P m) ∧ x ≤ u)) → J2 (nI (k + 1))) :
    wX_fitsBeside_44 post J2 (nI m) (nI x) (nI k) y4 f a1 a2 a3 a4 a5 a6 a7 := by
  unfold wX_fitsBeside_44
  rw [nI_clamp (show k < 2 ^ 31 by omega), nI_clamp (show m < 2 ^ 31 by omega), e4k, e4m, e5k, e5m]
  refine ⟨pk_in k 6 hk, pk_in m 6 hm, ek_if (qd_pr (by omega) (by omega)) (fun z => ⟨pk_in k 6 hk, pk_in m 6 hm, pk_eq (P k) (P m) (fun w => ?_) (fun w => ?_)⟩) (fun z => ?_)⟩
  · exact qd_f83 hk hx hu e6 h4 (Or.inl ⟨rfl, z, w⟩) H0 HJ
  · exact qd_f83 hk hx hu e6 h4 (Or.inr ⟨rfl, fun t => w t.2⟩) H0 HJ
  · exact qd_f83 hk hx hu e6 h4 (Or.inr ⟨rfl, fun t => z t.1⟩) H0 HJ
theorem qd_fits {post : Int32 → Prop} {R P U : Nat → Nat} {m x : Nat} {f : Int32} {a1 a2 a3 a4 a5 a6 a7 : Nat → Int32} (hm : m < 6) (hx : x ≤ 3)
    (h4 : ∀ j, j ≤ m → a4 j = nI (R j) ∧ R j ≤ 2) (h5 : ∀ j, j ≤ m → a5 j = nI (P j) ∧ P j ≤ 12) (h6 : ∀ j, j < m → a6 j = nI (U j) ∧ U j ≤ 3)
    (H1 : (∀ k, k < m → ¬ qd_bad R P U m x k) → post 1) (H0 : ∀ k, k < m → qd_bad R P U m x k → post 0) : wpX_fitsBeside post (f, a1, a2, a3, a4, a5, a6, a7) (nI m) (nI x) := by
  unfold wpX_fitsBeside
  refine pk_loop (σ := Unit) (fun n i _ => wX_fitsBeside_2 post (nI m) (nI x) f a1 a2 a3 a4 a5 a6 a7 n (nI i)) (fun i _ => ∀ k, k < i → ¬ qd_bad R P U m x k) m 0 () (by omega) (fun k hk => absurd hk (by omega))
    (fun n _ h => pk_le m m (fun _ => H1 h) (fun z => absurd z (by omega))) (fun n i _ hi h hw => ?_)
  have J : ¬ qd_bad R P U m x i → wX_fitsBeside_2 post (nI m) (nI x) f a1 a2 a3 a4 a5 a6 a7 n (nI (i + 1)) := fun hb => hw () (lt_s h hb)
  obtain ⟨e4i, b4i⟩ := h4 i (by omega)
  obtain ⟨e4m, b4m⟩ := h4 m (by omega)
  obtain ⟨e5i, b5i⟩ := h5 i (by omega)
  obtain ⟨e5m, b5m⟩ := h5 m (by omega)
  obtain ⟨e6i, b6i⟩ := h6 i hi
  show wX_fitsBeside_2 post (nI m) (nI x) f a1 a2 a3 a4 a5 a6 a7 (n + 1) (nI i)
  refine pk_le m i (fun z => absurd z (by omega)) (fun _ => ⟨pk_in i 6 (by omega), pk_in m 6 hm, ?_⟩)
  rw [nI_clamp (show i < 2 ^ 31 by omega), nI_clamp (show m < 2 ^ 31 by omega), e4i, e4m, e5i, e5m]
  refine pk_eq (R i) (R m) (fun z => ⟨pk_in i 6 (by omega), pk_in m 6 hm, pk_eq (P i) (P m + 1) (fun w => ?_) (fun w => ?_) (hy := nI_1 _)⟩) (fun z => ?_)
  · exact qd_f44 (rt := R i = R m ∧ P i = P m + 1) (by omega) hm hx b6i e6i e4i e4m e5i e5m b4i b4m b5i b5m (Or.inl ⟨rfl, z, w⟩) (H0 i hi) J
  · exact qd_f44 (rt := R i = R m ∧ P i = P m + 1) (by omega) hm hx b6i e6i e4i e4m e5i e5m b4i b4m b5i b5m (Or.inr ⟨rfl, fun t => w t.2⟩) (H0 i hi) J
  · exact qd_f44 (rt := R i = R m ∧ P i = P m + 1) (by omega) hm hx b6i e6i e4i e4m e5i e5m b4i b4m b5i b5m (Or.inr ⟨rfl, fun t => z t.1⟩) (H0 i hi) J
end
section
/-- x may stand at cell m -/
abbrev qd_ok (R P U B C : Nat → Nat) (m x : Nat) : Prop := C x < B (x - 1) ∧ (x = 1 ∨ C x < C (x - 1)) ∧ ∀ k, k < m → ¬ qd_bad R P U m x k
theorem qd_next {post : Int32 → Prop} {R P U B C : Nat → Nat} {m u : Nat} {f : Int32} {a1 a2 a3 a4 a5 a6 a7 : Nat → Int32} (hm : m < 6) (hu : u ≤ 3)
    (h4 : ∀ j, j ≤ m → a4 j = nI (R j) ∧ R j ≤ 2) (h5 : ∀ j, j ≤ m → a5 j = nI (P j) ∧ P j ≤ 12) (h6 : ∀ j, j < m → a6 j = nI (U j) ∧ U j ≤ 3) (e6 : a6 m = nI u)
    (h3 : ∀ j, j < 3 → a3 j = nI (B j) ∧ B j ≤ 6) (h7 : ∀ j, j < 4 → a7 j = nI (C j) ∧ C j ≤ 6)
    (H : ∀ x, u < x → x ≤ 3 → qd_ok R P U B C m x → post (nI x)) (H0 : (∀ x, u < x → x ≤ 3 → ¬ qd_ok R P U B C m x) → post 0) :
    wpX_nextNumber post (f, a1, a2, a3, a4, a5, a6, a7) (nI m) := by
  unfold wpX_nextNumber
  refine And.intro (pk_in m 6 hm) (nm_r (e' := nI (u + 1)) (by rw [nI_clamp (show m < 2 ^ 31 by omega), e6, nI_1]) ?_)
  refine pk_loop (σ := Unit) (fun n i _ => wX_nextNumber_9 post (nI m) f a1 a2 a3 a4 a5 a6 a7 n (nI i)) (fun i _ => u < i ∧ ∀ x, u < x → x < i → ¬ qd_ok R P U B C m x) 4 (u + 1) () (by omega) ⟨by omega, fun x h1 h2 => absurd h2 (by omega)⟩
    (fun n _ h => pk_lt 3 4 (fun _ => H0 (fun x h1 h2 => h.2 x h1 (by omega))) (fun z => absurd z (by omega))) (fun n i _ hi h hw => ?_)
  obtain ⟨h1, h2⟩ := h
  obtain ⟨y, rfl⟩ : ∃ y, i = y + 1 := ⟨i - 1, by omega⟩
  have J : ¬ qd_ok R P U B C m (y + 1) → wX_nextNumber_9 post (nI m) f a1 a2 a3 a4 a5 a6 a7 n (nI (y + 1 + 1)) := by
    intro hb
    refine hw () ⟨by omega, fun x g1 g2 => ?_⟩
    by_cases e : x = y + 1
    · rw [e]
      exact hb
    · exact h2 x g1 (by omega)
  have S57 : ¬ qd_ok R P U B C m (y + 1) → wX_nextNumber_57 post (wX_nextNumber_9 post (nI m) f a1 a2 a3 a4 a5 a6 a7 n) (nI m) (nI (y + 1)) f a1 a2 a3 a4 a5 a6 a7 :=
    fun hb => br_t rfl (nm_r (nI_1 (y + 1)) (J hb))
  have S53 : C (y + 1) < B y → (y + 1 = 1 ∨ C (y + 1) < C y) → wX_nextNumber_53 post (wX_nextNumber_9 post (nI m) f a1 a2 a3 a4 a5 a6 a7 n) (nI m) (nI (y + 1)) f a1 a2 a3 a4 a5 a6 a7 :=
    fun hc hd => br_f (by decide) (qd_fits hm (by omega) h4 h5 h6 (fun g => br_f (by decide) (H (y + 1) h1 (by omega) ⟨hc, hd, g⟩)) (fun k hk hb => br_t rfl (nm_r (nI_1 (y + 1)) (J (fun t => t.2.2 k hk hb)))))
  obtain ⟨e3, b3⟩ := h3 y (by omega)
  obtain ⟨e7, b7⟩ := h7 (y + 1) (by omega)
  obtain ⟨e7', b7'⟩ := h7 y (by omega)
  show wX_nextNumber_9 post (nI m) f a1 a2 a3 a4 a5 a6 a7 (n + 1) (nI (y + 1))
  refine pk_lt 3 (y + 1) (fun z => absurd z (by omega)) (fun _ => ⟨pk_in (y + 1) 4 (by omega), ?_⟩)
  rw [nI_pred y, nI_clamp (show y + 1 < 2 ^ 31 by omega), nI_clamp (show y < 2 ^ 31 by omega), e3, e7, e7']
  refine ⟨pk_in y 3 (by omega), pk_le (B y) (C (y + 1)) (fun z => S57 (fun t => ?_)) (fun z => pk_eq (y + 1) 1 (fun w => S53 z (Or.inl w)) (fun w => ⟨pk_in (y + 1) 4 (by omega), pk_in y 4 (by omega), pk_le (C y) (C (y + 1)) (fun v => S57 (fun t => ?_)) (fun v => S53 z (Or.inr v))⟩))⟩
  · have t1 : C (y + 1) < B y := t.1
    omega
  · have t1 : y + 1 = 1 ∨ C (y + 1) < C y := t.2.1
    omega
end
section
/-- how many of x stand in the first m cells -/
def qd_C (p q x m : Nat) : Nat := if x = 1 then min m p else if x = 2 then min (m - p) q else if x = 3 then m - p - q else 0
def qd_B (b0 b1 b2 j : Nat) : Nat := if j = 0 then b0 else if j = 1 then b1 else b2
/-- a test of all shapes -/
def qd_fin (f : Nat → Nat → Nat → Bool) : Bool := (List.range 7).all (fun p => (List.range 7).all (fun q => (List.range 7).all (fun r => !(decide (r ≤ q) && decide (q ≤ p) && decide (p + q + r ≤ 6)) || f p q r)))
theorem qd_finE {f : Nat → Nat → Nat → Bool} (h : qd_fin f = true) {p q r : Nat} (h1 : r ≤ q) (h2 : q ≤ p) (h3 : p + q + r ≤ 6) : f p q r = true := by
  have a := List.all_eq_true.mp h p (List.mem_range.mpr (by omega))
  have b := List.all_eq_true.mp a q (List.mem_range.mpr (by omega))
  have c := List.all_eq_true.mp b r (List.mem_range.mpr (by omega))
  rw [decide_eq_true h1, decide_eq_true h2, decide_eq_true h3] at c
  exact c
theorem qd_rg {n : Nat} {f : Nat → Bool} (h : (List.range n).all f = true) {k : Nat} (hk : k < n) : f k = true := List.all_eq_true.mp h k (List.mem_range.mpr hk)
theorem qd_F1 : qd_fin (fun p q r => (List.range 6).all (fun m => (List.range 4).all (fun x => decide (¬ (m < p + q + r ∧ 1 ≤ x ∧ x ≠ qd_R p q m + 1 ∧ (x = 1 ∨ qd_C p q x m < qd_C p q (x - 1) m) ∧ ∀ k, k < m → ¬ qd_bad (qd_R p q) (qd_P 0 0 0 p q r) (fun j => qd_R p q j + 1) m x k))))) = true := by decide +kernel
theorem qd_F2 : qd_fin (fun p q r => (List.range 6).all (fun m => decide (¬ m < p + q + r ∨ ((qd_R p q m + 1 = 1 ∨ qd_C p q (qd_R p q m + 1) m < qd_C p q (qd_R p q m + 1 - 1) m) ∧ ∀ k, k < m → ¬ qd_bad (qd_R p q) (qd_P 0 0 0 p q r) (fun j => qd_R p q j + 1) m (qd_R p q m + 1) k)))) = true := by decide +kernel
theorem qd_Cs1 : qd_fin (fun p q r => (List.range 6).all (fun m => (List.range 4).all (fun x => decide (¬ m < p + q + r ∨ qd_C p q x (m + 1) = if x = qd_R p q m + 1 then qd_C p q x m + 1 else qd_C p q x m)))) = true := by decide +kernel
theorem qd_all1 : qd_fin (fun p q r => (List.range 7).all (fun b0 => (List.range 7).all (fun b1 => (List.range 7).all (fun b2 => decide (¬ p + q + r = b0 + b1 + b2 ∨
    ((∀ j, j < p + q + r → qd_C p q (qd_R p q j + 1) j < qd_B b0 b1 b2 (qd_R p q j)) ↔ (p = b0 ∧ q = b1 ∧ r = b2))))))) = true := by decide +kernel
theorem qd_F {p q r : Nat} (h1 : r ≤ q) (h2 : q ≤ p) (h3 : p + q + r ≤ 6) {m : Nat} (hm : m < p + q + r) :
    (∀ x, x < 4 → 1 ≤ x → x ≠ qd_R p q m + 1 → ¬ ((x = 1 ∨ qd_C p q x m < qd_C p q (x - 1) m) ∧ ∀ k, k < m → ¬ qd_bad (qd_R p q) (qd_P 0 0 0 p q r) (fun j => qd_R p q j + 1) m x k)) ∧
    ((qd_R p q m + 1 = 1 ∨ qd_C p q (qd_R p q m + 1) m < qd_C p q (qd_R p q m + 1 - 1) m) ∧ ∀ k, k < m → ¬ qd_bad (qd_R p q) (qd_P 0 0 0 p q r) (fun j => qd_R p q j + 1) m (qd_R p q m + 1) k) := by
  refine ⟨fun x hx g1 g2 t => ?_, ?_⟩
  · exact of_decide_eq_true (qd_rg (qd_rg (qd_finE qd_F1 h1 h2 h3) (show m < 6 by omega)) hx) ⟨hm, g1, g2, t.1, t.2⟩
  · exact (of_decide_eq_true (qd_rg (qd_finE qd_F2 h1 h2 h3) (show m < 6 by omega))).resolve_left (fun z => z hm)
theorem qd_Cs {p q r : Nat} (h1 : r ≤ q) (h2 : q ≤ p) (h3 : p + q + r ≤ 6) {m : Nat} (hm : m < p + q + r) : ∀ x, x < 4 → qd_C p q x (m + 1) = if x = qd_R p q m + 1 then qd_C p q x m + 1 else qd_C p q x m :=
  fun _ hx => (of_decide_eq_true (qd_rg (qd_rg (qd_finE qd_Cs1 h1 h2 h3) (show m < 6 by omega)) hx)).resolve_left (fun z => z hm)
theorem qd_all {p q r : Nat} (h1 : r ≤ q) (h2 : q ≤ p) (h3 : p + q + r ≤ 6) {b0 b1 b2 : Nat} (hs : p + q + r = b0 + b1 + b2) :
    (∀ j, j < p + q + r → qd_C p q (qd_R p q j + 1) j < qd_B b0 b1 b2 (qd_R p q j)) ↔ (p = b0 ∧ q = b1 ∧ r = b2) :=
  (of_decide_eq_true (qd_rg (qd_rg (qd_rg (qd_finE qd_all1 h1 h2 h3) (show b0 < 7 by omega)) (show b1 < 7 by omega)) (show b2 < 7 by omega))).resolve_left (fun z => z hs)
theorem qd_R2 (p q j : Nat) : qd_R p q j ≤ 2 := by
  unfold qd_R
  split
  · omega
  · split <;> omega
theorem qd_P6 {p q r : Nat} (h : p + q + r ≤ 6) (j : Nat) : qd_P 0 0 0 p q r j ≤ 12 := by
  unfold qd_P
  split
  · omega
  · split <;> omega
theorem qd_C6 {p q m : Nat} (h : m ≤ 6) (x : Nat) : qd_C p q x m ≤ 6 := by
  unfold qd_C
  split
  · omega
  · split
    · omega
    · split <;> omega
theorem qd_C0 (p q x : Nat) : qd_C p q x 0 = 0 := by
  unfold qd_C
  split
  · omega
  · split
    · omega
    · split <;> omega
theorem qd_58 {post : Int32 → St2 → Prop} {J6 : Int32 → Int32 → Int32 → (Nat → Int32) → (Nat → Int32) → (Nat → Int32) → (Nat → Int32) → (Nat → Int32) → (Nat → Int32) → (Nat → Int32) → Prop} {p q r : Nat} {b : Nat → Nat} {m u st : Nat} {x1 f : Int32} {a1 a2 a3 a4 a5 a6 a7 : Nat → Int32}
    (h1 : r ≤ q) (h2 : q ≤ p) (h3 : p + q + r ≤ 6) (hm : m < p + q + r) (hu : u = 0 ∨ u = qd_R p q m + 1)
    (c4 : ∀ j, j < p + q + r → a4 j = nI (qd_R p q j)) (c5 : ∀ j, j < p + q + r → a5 j = nI (qd_P 0 0 0 p q r j)) (c3 : ∀ j, j < 3 → a3 j = nI (b j) ∧ b j ≤ 6)
    (c6 : ∀ j, j < m → a6 j = nI (qd_R p q j + 1)) (e6 : a6 m = nI u) (c7 : ∀ x, x < 4 → a7 x = nI (qd_C p q x m))
    (Hup : u = 0 → qd_C p q (qd_R p q m + 1) m < b (qd_R p q m) → J6 x1 (nI (m + 1)) (nI (st + 1)) a1 a2 a3 a4 a5 (upd a6 m (nI (qd_R p q m + 1))) (upd a7 (qd_R p q m + 1) (nI (qd_C p q (qd_R p q m + 1) m + 1))))
    (Hdn : ¬ (u = 0 ∧ qd_C p q (qd_R p q m + 1) m < b (qd_R p q m)) → J6 x1 (nI m - 1) (nI (st + 1)) a1 a2 a3 a4 a5 (upd a6 m 0) a7) :
    wX_tryNumbers_58 post J6 x1 (nI m) (nI st) f a1 a2 a3 a4 a5 a6 a7 := by
  have hmN : m < 6 := by omega
  have hR := qd_R2 p q m
  obtain ⟨F1, F2⟩ := qd_F h1 h2 h3 hm
  unfold wX_tryNumbers_58
  refine qd_next (R := qd_R p q) (P := qd_P 0 0 0 p q r) (U := fun j => qd_R p q j + 1) (B := b) (C := fun x => qd_C p q x m) (u := u) hmN (by omega)
    (fun j hj => ⟨c4 j (by omega), qd_R2 p q j⟩) (fun j hj => ⟨c5 j (by omega), qd_P6 h3 j⟩) (fun j hj => ⟨c6 j hj, Nat.succ_le_succ (qd_R2 p q j)⟩) e6 c3 (fun x hx => ⟨c7 x hx, qd_C6 (by omega) x⟩) (fun x hx1 hx2 ok => ?_) (fun hn => ?_)
  · have ex : x = qd_R p q m + 1 := Classical.byContradiction (fun ne => F1 x (by omega) (by omega) ne ok.2)
    subst ex
    have hu0 : u = 0 := by omega
    refine ⟨pk_in m 6 hmN, nm_e ⟨pk_in m 6 hmN, ?_⟩⟩
    rw [nI_clamp (show m < 2 ^ 31 by omega), pk_us]
    refine br_f (nI_ne0 (by omega) (by omega)) ⟨pk_in m 6 hmN, pk_in (qd_R p q m + 1) 4 (by omega), pk_in (qd_R p q m + 1) 4 (by omega), nm_r (e' := upd a7 (qd_R p q m + 1) (nI (qd_C p q (qd_R p q m + 1) m + 1))) ?_ (nm_r (nI_1 m) (nm_r (nI_1 st) (Hup hu0 ok.1)))⟩
    rw [nI_clamp (show qd_R p q m + 1 < 2 ^ 31 by omega), c7 (qd_R p q m + 1) (by omega), nI_1]
  · refine ⟨pk_in m 6 hmN, nm_e ⟨pk_in m 6 hmN, ?_⟩⟩
    rw [nI_clamp (show m < 2 ^ 31 by omega), pk_us]
    exact br_t rfl (nm_r (qd_m _) (nm_r (nI_1 st) (Hdn (fun t => hn (qd_R p q m + 1) (by omega) (by omega) ⟨t.2, F2⟩))))
theorem qd_down {post : Int32 → St2 → Prop} {p q r F : Nat} {b : Nat → Nat} {a1 a2 a3 a4 a5 : Nat → Int32}
    (h1 : r ≤ q) (h2 : q ≤ p) (h3 : p + q + r ≤ 6)
    (c4 : ∀ j, j < p + q + r → a4 j = nI (qd_R p q j)) (c5 : ∀ j, j < p + q + r → a5 j = nI (qd_P 0 0 0 p q r j)) (c3 : ∀ j, j < 3 → a3 j = nI (b j) ∧ b j ≤ 6)
    (H : ∀ a6' a7', post (nI F) (nI (p + q + r), a1, a2, a3, a4, a5, a6', a7')) :
    ∀ m, m ≤ p + q + r → ∀ (st : Nat) (a6 a7 : Nat → Int32), st + m < 5000 → (∀ j, j < m → a6 j = nI (qd_R p q j + 1)) → (∀ x, x < 4 → a7 x = nI (qd_C p q x m)) →
      wX_tryNumbers_6 post (nI (p + q + r)) (m + 1) (nI F) (nI m - 1) (nI st) a1 a2 a3 a4 a5 a6 a7 := by
  intro m
  induction m with
  | zero =>
    intro _ st a6 a7 hst c6 c7
    exact pk_le 5000 st (fun z => absurd z (by omega)) (fun _ => br_t (by decide) (H a6 a7))
  | succ m ih =>
    intro hm st a6 a7 hst c6 c7
    have hR := qd_R2 p q m
    have hC := qd_Cs h1 h2 h3 (m := m) (by omega)
    have hCe : qd_C p q (qd_R p q m + 1) (m + 1) = qd_C p q (qd_R p q m + 1) m + 1 := by
      rw [hC (qd_R p q m + 1) (by omega), if_pos rfl]
    have c7' : ∀ x, x < 4 → upd a7 (qd_R p q m + 1) (nI (qd_C p q (qd_R p q m + 1) m)) x = nI (qd_C p q x m) := by
      intro x hx
      by_cases e : x = qd_R p q m + 1
      · rw [e, pk_us]
      · rw [pk_un e, c7 x hx, hC x hx, if_neg e]
    rw [nI_pred m]
    refine pk_le 5000 st (fun z => absurd z (by omega)) (fun _ => pk_lt m 0 (fun z => absurd z (by omega)) (fun _ => pk_eq m (p + q + r) (fun z => absurd z (by omega)) (fun _ => ⟨pk_in m 6 (by omega), ?_⟩)))
    rw [nI_clamp (show m < 2 ^ 31 by omega), c6 m (by omega)]
    refine pk_le (qd_R p q m + 1) 0 (fun z => absurd z (by omega)) (fun _ => ⟨pk_in m 6 (by omega), pk_in (qd_R p q m + 1) 4 (by omega), pk_in (qd_R p q m + 1) 4 (by omega), nm_r (e' := upd a7 (qd_R p q m + 1) (nI (qd_C p q (qd_R p q m + 1) m))) ?_ ?_⟩)
    · rw [nI_clamp (show qd_R p q m + 1 < 2 ^ 31 by omega), c7 (qd_R p q m + 1) (by omega), hCe, nI_pred]
    · refine qd_58 (u := qd_R p q m + 1) h1 h2 h3 (by omega) (Or.inr rfl) c4 c5 c3 (fun j hj => c6 j (by omega)) (c6 m (by omega)) c7' (fun z _ => absurd z (by omega)) (fun _ => ?_)
      refine ih (by omega) (st + 1) (upd a6 m 0) _ (by omega) (fun j hj => ?_) c7'
      rw [pk_un (by omega)]
      exact c6 j (by omega)
theorem qd_up {post : Int32 → St2 → Prop} {p q r : Nat} {b : Nat → Nat} {a1 a2 a3 a4 a5 : Nat → Int32}
    (h1 : r ≤ q) (h2 : q ≤ p) (h3 : p + q + r ≤ 6)
    (c4 : ∀ j, j < p + q + r → a4 j = nI (qd_R p q j)) (c5 : ∀ j, j < p + q + r → a5 j = nI (qd_P 0 0 0 p q r j)) (c3 : ∀ j, j < 3 → a3 j = nI (b j) ∧ b j ≤ 6)
    (H1 : (∀ j, j < p + q + r → qd_C p q (qd_R p q j + 1) j < b (qd_R p q j)) → ∀ a6' a7', post (nI 1) (nI (p + q + r), a1, a2, a3, a4, a5, a6', a7'))
    (H0 : ¬ (∀ j, j < p + q + r → qd_C p q (qd_R p q j + 1) j < b (qd_R p q j)) → ∀ a6' a7', post (nI 0) (nI (p + q + r), a1, a2, a3, a4, a5, a6', a7')) :
    ∀ d m, m + d = p + q + r → ∀ (a6 a7 : Nat → Int32), (∀ j, j < m → a6 j = nI (qd_R p q j + 1)) → (∀ j, m ≤ j → j < p + q + r → a6 j = 0) → (∀ x, x < 4 → a7 x = nI (qd_C p q x m)) →
      (∀ j, j < m → qd_C p q (qd_R p q j + 1) j < b (qd_R p q j)) → ∃ n, wX_tryNumbers_6 post (nI (p + q + r)) n (nI 0) (nI m) (nI m) a1 a2 a3 a4 a5 a6 a7 := by
  intro d
  induction d with
  | zero =>
    intro m hm a6 a7 c6 c6' c7 hok
    have em : m = p + q + r := hm
    subst em
    refine ⟨p + q + r + 1 + 1, ?_⟩
    refine pk_le 5000 (p + q + r) (fun z => absurd z (by omega)) (fun _ => pk_lt (p + q + r) 0 (fun z => absurd z (by omega)) (fun _ => pk_eq (p + q + r) (p + q + r) (fun _ => ?_) (fun z => absurd rfl z)))
    refine nm_r (nI_1 0) (nm_r (qd_m _) (nm_r (nI_1 _) ?_))
    exact qd_down (F := 0 + 1) h1 h2 h3 c4 c5 c3 (H1 hok) (p + q + r) (by omega) (p + q + r + 1) a6 a7 (by omega) c6 c7
  | succ d ih =>
    intro m hm a6 a7 c6 c6' c7 hok
    have hR := qd_R2 p q m
    have e6 : a6 m = nI 0 := c6' m (by omega) (by omega)
    by_cases hk : qd_C p q (qd_R p q m + 1) m < b (qd_R p q m)
    · have hC := qd_Cs h1 h2 h3 (m := m) (by omega)
      obtain ⟨n, hn⟩ := ih (m + 1) (by omega) (upd a6 m (nI (qd_R p q m + 1))) (upd a7 (qd_R p q m + 1) (nI (qd_C p q (qd_R p q m + 1) m + 1)))
        (fun j hj => by
          by_cases e : j = m
          · rw [e, pk_us]
          · rw [pk_un e]
            exact c6 j (by omega))
        (fun j g1 g2 => by
          rw [pk_un (by omega)]
          exact c6' j (by omega) g2)
        (fun x hx => by
          rw [hC x hx]
          by_cases e : x = qd_R p q m + 1
          · rw [if_pos e, e, pk_us]
          · rw [if_neg e, pk_un e]
            exact c7 x hx)
        (fun j hj => by
          by_cases e : j = m
          · rw [e]
            exact hk
          · exact hok j (by omega))
      refine ⟨n + 1, ?_⟩
      refine pk_le 5000 m (fun z => absurd z (by omega)) (fun _ => pk_lt m 0 (fun z => absurd z (by omega)) (fun _ => pk_eq m (p + q + r) (fun z => absurd z (by omega)) (fun _ => ⟨pk_in m 6 (by omega), ?_⟩)))
      rw [nI_clamp (show m < 2 ^ 31 by omega), e6]
      refine pk_le 0 0 (fun _ => ?_) (fun z => absurd z (by omega))
      exact qd_58 (u := 0) h1 h2 h3 (by omega) (Or.inl rfl) c4 c5 c3 c6 e6 c7 (fun _ _ => hn) (fun z => absurd ⟨rfl, hk⟩ z)
    · refine ⟨m + 1 + 1, ?_⟩
      refine pk_le 5000 m (fun z => absurd z (by omega)) (fun _ => pk_lt m 0 (fun z => absurd z (by omega)) (fun _ => pk_eq m (p + q + r) (fun z => absurd z (by omega)) (fun _ => ⟨pk_in m 6 (by omega), ?_⟩)))
      rw [nI_clamp (show m < 2 ^ 31 by omega), e6]
      refine pk_le 0 0 (fun _ => ?_) (fun z => absurd z (by omega))
      refine qd_58 (u := 0) h1 h2 h3 (by omega) (Or.inl rfl) c4 c5 c3 c6 e6 c7 (fun _ z => absurd z hk) (fun _ => ?_)
      refine qd_down (F := 0) h1 h2 h3 c4 c5 c3 (H0 (fun z => hk (z m (by omega)))) m (by omega) (m + 1) (upd a6 m 0) a7 (by omega) (fun j hj => ?_) c7
      rw [pk_un (by omega)]
      exact c6 j hj
theorem qd_try {post : Int32 → St2 → Prop} {p q r : Nat} {b : Nat → Nat} {a1 a2 a3 a4 a5 a6 a7 : Nat → Int32}
    (h1 : r ≤ q) (h2 : q ≤ p) (h3 : p + q + r ≤ 6) (hc : qd_cl (qd_R p q) (qd_P 0 0 0 p q r) (p + q + r) a4 a5 a6) (c3 : ∀ j, j < 3 → a3 j = nI (b j) ∧ b j ≤ 6) (c7 : ∀ j, j < 4 → a7 j = 0)
    (H1 : (∀ j, j < p + q + r → qd_C p q (qd_R p q j + 1) j < b (qd_R p q j)) → ∀ a6' a7', post (nI 1) (nI (p + q + r), a1, a2, a3, a4, a5, a6', a7'))
    (H0 : ¬ (∀ j, j < p + q + r → qd_C p q (qd_R p q j + 1) j < b (qd_R p q j)) → ∀ a6' a7', post (nI 0) (nI (p + q + r), a1, a2, a3, a4, a5, a6', a7')) :
    wpX_tryNumbers post (nI (p + q + r), a1, a2, a3, a4, a5, a6, a7) := by
  unfold wpX_tryNumbers
  exact qd_up h1 h2 h3 (fun j hj => (hc j hj).1) (fun j hj => (hc j hj).2.1) c3 H1 H0 (p + q + r) 0 (by omega) a6 a7 (fun j hj => absurd hj (by omega)) (fun j _ hj => (hc j hj).2.2) (fun x hx => by rw [c7 x hx, qd_C0, nI_0]) (fun j hj => absurd hj (by omega))
/-- no cell at all: one filling -/
theorem qd_try0 {post : Int32 → St2 → Prop} {a1 a2 a3 a4 a5 a6 a7 : Nat → Int32} (H : post (nI 1) (nI 0, a1, a2, a3, a4, a5, a6, a7)) : wpX_tryNumbers post (nI 0, a1, a2, a3, a4, a5, a6, a7) := by
  unfold wpX_tryNumbers
  refine ⟨0 + 1 + 1, ?_⟩
  refine pk_le 5000 0 (fun z => absurd z (by omega)) (fun _ => pk_lt 0 0 (fun z => absurd z (by omega)) (fun _ => pk_eq 0 0 (fun _ => nm_r (nI_1 0) (nm_r (qd_m _) (nm_r (nI_1 0) ?_))) (fun z => absurd rfl z)))
  exact pk_le 5000 1 (fun z => absurd z (by omega)) (fun _ => br_t (by decide) H)
end
section
theorem qd_count {post : Int32 → St2 → Prop} {k0 k1 k2 p q r b0 b1 b2 : Nat} {f : Int32} {a1 a2 a3 a4 a5 a6 a7 : Nat → Int32} (hk : k0 + k1 + k2 ≤ 6) (hp : p + q + r ≤ 6) (hb : b0 + b1 + b2 ≤ 6)
    (e0 : a1 0 = nI k0) (e1 : a1 1 = nI k1) (e2 : a1 2 = nI k2)
    (H0 : ¬ (k0 ≤ p ∧ k1 ≤ q ∧ k2 ≤ r ∧ p + q + r = k0 + k1 + k2 + (b0 + b1 + b2)) → ∀ a2' a3', post 0 (f, a1, a2', a3', a4, a5, a6, a7))
    (H1 : k0 ≤ p → k1 ≤ q → k2 ≤ r → p + q + r = k0 + k1 + k2 + (b0 + b1 + b2) → ∀ ψ : Int32 → St2 → Prop, (∀ x g c1 c2 c3 c4 c5 c6 c7, post x (g, c1, c2, c3, c4, c5, c6, c7) → ψ x (g, c1, c2, c3, c4, c5, c6, c7)) →
      ∀ a2' a3' a4' a5' a6' a7', (∀ j, j < 3 → a3' j = nI (qd_B b0 b1 b2 j)) → qd_cl (qd_R (p - k0) (q - k1)) (qd_P k0 k1 k2 (p - k0) (q - k1) (r - k2)) (p - k0 + (q - k1) + (r - k2)) a4' a5' a6' → (∀ j, j < 4 → a7' j = 0) →
      wpX_tryNumbers ψ (nI (p - k0 + (q - k1) + (r - k2)), a1, a2', a3', a4', a5', a6', a7')) :
    wpX_countFillings post (f, a1, a2, a3, a4, a5, a6, a7) (nI (100 * b0 + 10 * b1 + b2)) (nI (100 * p + 10 * q + r)) := by
  unfold wpX_countFillings
  dsimp only
  rw [qd_dh hp, qd_dt hp, qd_du hp, qd_dh hb, qd_dt hb, qd_du hb]
  refine ⟨by decide, nm_e ⟨by decide, by decide, nm_e ⟨by decide, nm_e ⟨by decide, nm_e ⟨by decide, by decide, nm_e ⟨by decide, nm_e ?_⟩⟩⟩⟩⟩⟩
  generalize hA2 : upd (upd (upd a2 0 (nI p)) 1 (nI q)) 2 (nI r) = A2
  generalize hA3 : upd (upd (upd a3 0 (nI b0)) 1 (nI b1)) 2 (nI b2) = A3
  have f0 : A2 0 = nI p := by
    rw [← hA2]
    rfl
  have f1 : A2 1 = nI q := by
    rw [← hA2]
    rfl
  have f2 : A2 2 = nI r := by
    rw [← hA2]
    rfl
  have g3 : ∀ j, j < 3 → A3 j = nI (qd_B b0 b1 b2 j) := by
    intro j hj
    rw [← hA3]
    exact co_3 (P := fun j => upd (upd (upd a3 0 (nI b0)) 1 (nI b1)) 2 (nI b2) j = nI (qd_B b0 b1 b2 j)) rfl rfl rfl hj
  rw [f0, f1, f2, e0, e1, e2]
  refine pk_lt p k0 (fun z => br_t rfl (H0 (by omega) A2 A3)) (fun z0 => pk_lt q k1 (fun z => br_t rfl (H0 (by omega) A2 A3)) (fun z1 => pk_lt r k2 (fun z => br_t rfl (H0 (by omega) A2 A3)) (fun z2 => br_f (by decide) (qd_sizeS hp ?_))))
  unfold wpX_keptSize
  dsimp only
  rw [e0, e1, e2, nI_add, nI_add]
  refine qd_sizeS hb (pk_eq (p + q + r) (k0 + k1 + k2 + (b0 + b1 + b2)) (fun z => ?_) (fun z => H0 (by omega) A2 A3) (hy := nI_add _ _))
  refine qd_listCells (k0 := k0) (k1 := k1) (k2 := k2) (d0 := p - k0) (d1 := q - k1) (d2 := r - k2) (by omega) hk e0 e1 e2 (by rw [f0, show k0 + (p - k0) = p by omega]) (by rw [f1, show k1 + (q - k1) = q by omega]) (by rw [f2, show k2 + (r - k2) = r by omega]) (fun a4' a5' a6' a7' hc h7 => ?_)
  refine H1 z0 z1 z2 z _ ?_ A2 A3 a4' a5' a6' a7' g3 hc h7
  exact fun x g c1 c2 c3 c4 c5 c6 c7 h => h
theorem qd_dig1 {p q r : Nat} (h1 : p + q + r ≤ 6) : (100 * p + 10 * q + r) / 100 = p ∧ (100 * p + 10 * q + r) / 10 % 10 = q ∧ (100 * p + 10 * q + r) % 10 = r := by
  refine ⟨?_, ?_, ?_⟩ <;> omega
theorem qd_dig {p q r a b c : Nat} (h1 : p + q + r ≤ 6) (h2 : a + b + c ≤ 6) : nI (100 * p + 10 * q + r) = nI (100 * a + 10 * b + c) ↔ (p = a ∧ q = b ∧ r = c) := by
  rw [nI_eq (by omega) (by omega)]
  constructor
  · intro e
    obtain ⟨p1, p2, p3⟩ := qd_dig1 h1
    obtain ⟨a1, a2, a3⟩ := qd_dig1 h2
    rw [e] at p1 p2 p3
    exact ⟨p1.symm.trans a1, p2.symm.trans a2, p3.symm.trans a3⟩
  · intro ⟨e1, e2, e3⟩
    rw [e1, e2, e3]
theorem qd_times {post : Int32 → St2 → Prop} {f x y : Int32} {a1 a2 a3 a4 a5 a6 a7 : Nat → Int32} (z : ∀ j, a1 j = 0) (Hn : ¬ (qd_sh x ∧ qd_sh y) → post (-1) (f, a1, a2, a3, a4, a5, a6, a7))
    (Hs : qd_sh x → qd_sh y → ∀ c : Int32, (x = y → c = 1) → (¬ x = y → c = 0) → ∀ f' a2' a3' a4' a5' a6' a7', post c (f', a1, a2', a3', a4', a5', a6', a7')) :
    wpX_times post (f, a1, a2, a3, a4, a5, a6, a7) x y := by
  unfold wpX_times
  dsimp only
  refine qd_xsh (fun sx => br_f (by decide) (qd_xsh (fun sy => br_f (by decide) ?_) (fun ny => br_t rfl (Hn (fun t => ny t.2))))) (fun nx => br_t rfl (Hn (fun t => nx t.1)))
  have S := Hs sx sy
  obtain ⟨b0, b1, b2, hb1, hb2, hb3, rfl⟩ := sx
  obtain ⟨p, q, r, h1, h2, h3, rfl⟩ := sy
  have D : nI (100 * b0 + 10 * b1 + b2) = nI (100 * p + 10 * q + r) ↔ (b0 = p ∧ b1 = q ∧ b2 = r) := qd_dig hb3 h3
  unfold wpX_keptSize
  dsimp only
  rw [z 0, z 1, z 2]
  refine qd_sizeS hb3 (pk_le (0 + (b0 + b1 + b2)) 6 (fun _ => ?_) (fun z => absurd z (by omega)) (hx := nI_add 0 _))
  refine qd_count (k0 := 0) (k1 := 0) (k2 := 0) (by omega) h3 hb3 (z 0) (z 1) (z 2) (fun hn a2' a3' => S 0 (fun e => ?_) (fun _ => rfl) f a2' a3' a4 a5 a6 a7) (fun _ _ _ hs ψ hψ a2' a3' a4' a5' a6' a7' c3 hc c7 => ?_)
  · have := D.mp e
    omega
  · have A := qd_all h1 h2 h3 (b0 := b0) (b1 := b1) (b2 := b2) (by omega)
    refine qd_try (b := qd_B b0 b1 b2) h1 h2 h3 hc (fun j hj => ⟨c3 j hj, co_3 (P := fun j => qd_B b0 b1 b2 j ≤ 6) (show b0 ≤ 6 by omega) (show b1 ≤ 6 by omega) (show b2 ≤ 6 by omega) hj⟩) c7
      (fun ok a6'' a7'' => hψ _ _ _ _ _ _ _ _ _ (S (nI 1) (fun _ => rfl) (fun ne => ?_) _ a2' a3' a4' a5' a6'' a7''))
      (fun ok a6'' a7'' => hψ _ _ _ _ _ _ _ _ _ (S (nI 0) (fun e => ?_) (fun _ => rfl) _ a2' a3' a4' a5' a6'' a7''))
    · have w := A.mp ok
      exact absurd (D.mpr ⟨w.1.symm, w.2.1.symm, w.2.2.symm⟩) ne
    · have w := D.mp e
      exact absurd (A.mpr ⟨w.1.symm, w.2.1.symm, w.2.2.symm⟩) ok
end
section
theorem qd_fillings {post : Int32 → Prop} {f : Int32} {a1 a2 a3 a4 a5 a6 a7 : Nat → Int32} (z : ∀ j, a1 j = 0) (H : post 1) : wpX_fillings post (f, a1, a2, a3, a4, a5, a6, a7) := by
  unfold wpX_fillings
  dsimp only
  rw [z 0, z 1, z 2]
  exact nm_e ⟨by decide, H⟩
theorem qd_orders {post : Int32 → Prop} {f : Int32} {a1 a2 a3 a4 a5 a6 a7 : Nat → Int32} (z : ∀ j, a1 j = 0) (H : post 1) : wpX_orders post (f, a1, a2, a3, a4, a5, a6, a7) := by
  have L3 : ∀ n, wX_orders_9 post f a1 a2 a3 a4 a5 a6 a7 (n + 1) 0 1 1 (nI 3) := fun n => pk_le 3 3 (fun _ => ⟨by decide, H⟩) (fun z => absurd z (by omega))
  have ST : ∀ n i, i < 3 → wX_orders_9 post f a1 a2 a3 a4 a5 a6 a7 n 0 1 1 (nI (i + 1)) → wX_orders_9 post f a1 a2 a3 a4 a5 a6 a7 (n + 1) 0 1 1 (nI i) := by
    intro n i hi h
    refine pk_le 3 i (fun z => absurd z (by omega)) (fun _ => ⟨0 + 1, And.intro (pk_in i 3 hi) (br_t ?_ (nm_r (nI_1 i) h))⟩)
    rw [z]
    decide
  unfold wpX_orders
  exact ⟨0 + 1 + 1 + 1 + 1, ST _ 0 (by omega) (ST _ 1 (by omega) (ST _ 2 (by omega) (L3 0)))⟩
theorem qd_greatest {post : Int32 → Prop} {f x : Int32} {a1 a2 a3 a4 a5 a6 a7 : Nat → Int32} (z : ∀ j, a1 j = 0) (h1 : qd_sh x → post x) (h0 : ¬ qd_sh x → post (-1)) : wpX_greatest post (f, a1, a2, a3, a4, a5, a6, a7) x := by
  unfold wpX_greatest
  dsimp only
  refine qd_xsh (fun s => br_f (by decide) ?_) (fun n => br_t rfl (h0 n))
  have S := h1 s
  obtain ⟨p, q, r, g1, g2, g3, rfl⟩ := s
  unfold wpX_keptSize
  dsimp only
  rw [z 0, z 1, z 2]
  refine qd_sizeS g3 (pk_le (0 + (p + q + r)) 6 (fun _ => ?_) (fun z => absurd z (by omega)) (hx := nI_add 0 _))
  rw [show (100 * (0 : Int32) + 10 * 0 + 0) = 0 from by decide, Int32.zero_add]
  exact S
theorem qd_keep {post : Int32 → St2 → Prop} {f x : Int32} {a1 a2 a3 a4 a5 a6 a7 : Nat → Int32} (Hn : ¬ qd_sh x → post (-1) (f, a1, a2, a3, a4, a5, a6, a7))
    (Hs : ∀ p q r, r ≤ q → q ≤ p → p + q + r ≤ 6 → x = nI (100 * p + 10 * q + r) → ∀ a1' : Nat → Int32, a1' 0 = nI p → a1' 1 = nI q → a1' 2 = nI r → post (((x / 100) + ((x / 10) - (x / 10) / 10 * 10)) + (x - x / 10 * 10)) (f, a1', a2, a3, a4, a5, a6, a7)) :
    wpX_keep post (f, a1, a2, a3, a4, a5, a6, a7) x := by
  unfold wpX_keep
  dsimp only
  refine qd_xsh (fun s => br_f (by decide) ⟨by decide, nm_e ⟨by decide, by decide, nm_e ⟨by decide, nm_e (qd_sz ?_)⟩⟩⟩) (fun n => br_t rfl (Hn n))
  obtain ⟨p, q, r, g1, g2, g3, e⟩ := s
  refine Hs p q r g1 g2 g3 e _ ?_ ?_ ?_
  · show x / 100 = nI p
    rw [e, qd_dh g3]
  · show x / 10 - x / 10 / 10 * 10 = nI q
    rw [e, qd_dt g3]
  · show x - x / 10 * 10 = nI r
    rw [e, qd_du g3]
theorem qd_wc {post : Int32 → Prop} {k0 k1 : Nat} {f x : Int32} {a1 a2 a3 a4 a5 a6 a7 : Nat → Int32} (e0 : a1 0 = nI k0) (e1 : a1 1 = nI k1) (h : k1 ≤ k0) (hk : k0 ≤ 6) (Hn : ¬ qd_ct x → post (-1)) (Hs : qd_ct x → ∀ n, n ≤ 10 → post (nI n)) :
    wpX_withContent post (f, a1, a2, a3, a4, a5, a6, a7) x := by
  unfold wpX_withContent
  dsimp only
  refine qd_isct (fun s => br_f (by decide) ⟨by decide, nm_e ⟨by decide, by decide, nm_e ⟨by decide, br_c (fun _ => nm_r e1 ?_) (fun _ => Hs s 0 (by omega))⟩⟩⟩) (fun n => br_t rfl (Hn n))
  refine pk_loop (fun n i s => wX_withContent_66 post (x / 100) ((x / 10) - (x / 10) / 10 * 10) f a1 a2 a3 a4 a5 a6 a7 n (nI s) (nI i)) (fun i s => s + k1 ≤ i) (k0 + 1) k1 0 (by omega) (by omega)
    (fun n t ht => pk_lt k0 (k0 + 1) (fun _ => Hs s t (by omega)) (fun z => absurd z (by omega)) (hx := e0)) (fun n i t hi ht hw => ?_)
  have J0 : wX_withContent_66 post (x / 100) ((x / 10) - (x / 10) / 10 * 10) f a1 a2 a3 a4 a5 a6 a7 n (nI (t + 0)) (nI (i + 1)) := hw t (by omega)
  have J1 : wX_withContent_66 post (x / 100) ((x / 10) - (x / 10) / 10 * 10) f a1 a2 a3 a4 a5 a6 a7 n (nI (t + 1)) (nI (i + 1)) := hw (t + 1) (by omega)
  have T : ∀ w6 w : Int32, wX_withContent_112 post (wX_withContent_66 post (x / 100) ((x / 10) - (x / 10) / 10 * 10) f a1 a2 a3 a4 a5 a6 a7 n) (x / 100) ((x / 10) - (x / 10) / 10 * 10) (nI t) (nI i) w6 w f a1 a2 a3 a4 a5 a6 a7 :=
    fun w6 w => br_c (fun _ => nm_r (nI_add t 0) (nm_r (nI_1 i) J0)) (fun _ => br_c (fun _ => nm_r (nI_add t 0) (nm_r (nI_1 i) J0)) (fun _ => br_c (fun _ => nm_r (nI_add t 0) (nm_r (nI_1 i) J0)) (fun _ => nm_r (nI_1 t) (nm_r (nI_1 i) J1))))
  exact pk_lt k0 i (fun z => absurd z (by omega)) (fun _ => nm_e (br_c (fun _ => T _ _) (fun _ => br_c (fun _ => T _ _) (fun _ => T _ _)))) (hx := e0)
theorem qd_parts {post : Int32 → St2 → Prop} {k0 k1 k2 : Nat} {f : Int32} {a1 a2 a3 a4 a5 a6 a7 : Nat → Int32} (hk1 : k2 ≤ k1) (hk2 : k1 ≤ k0) (hk : k0 + k1 + k2 ≤ 6) (e0 : a1 0 = nI k0) (e1 : a1 1 = nI k1) (e2 : a1 2 = nI k2)
    (H : ∀ f' a2' a3' a4' a5' a6' a7', post 1 (f', a1, a2', a3', a4', a5', a6', a7')) : wpX_parts post (f, a1, a2, a3, a4, a5, a6, a7) 0 := by
  unfold wpX_parts
  dsimp only
  refine qd_xsh (fun _ => br_f (by decide) ?_) (fun n => absurd ⟨0, 0, 0, Nat.le_refl 0, Nat.le_refl 0, by omega, rfl⟩ n)
  unfold wpX_keptSize
  dsimp only
  rw [e0, e1, e2, nI_add, nI_add]
  refine qd_size (j := 0) (by decide) (pk_le (k0 + k1 + k2 + (0 / 100 + 0 / 10 % 10 + 0 % 10)) 6 (fun _ => ?_) (fun z => absurd z (by omega)) (hx := nI_add _ _))
  refine pk_loop (σ := Int32 × Int32 × (Nat → Int32) × (Nat → Int32) × (Nat → Int32) × (Nat → Int32) × (Nat → Int32) × (Nat → Int32))
    (fun n i s => wX_parts_27 post 0 n s.1 (nI i) s.2.1 a1 s.2.2.1 s.2.2.2.1 s.2.2.2.2.1 s.2.2.2.2.2.1 s.2.2.2.2.2.2.1 s.2.2.2.2.2.2.2) (fun i s => s.1 = nI (if 100 * k0 + 10 * k1 + k2 < i then 1 else 0)) 601 0 (0, f, a2, a3, a4, a5, a6, a7) (by omega) (by rw [if_neg (by omega)]; rfl)
    (fun n s h => pk_lt 600 601 (fun _ => ?_) (fun z => absurd z (by omega))) (fun n i s hi h hw => ?_)
  · have e : s.1 = 1 := by
      rw [h, if_pos (by omega)]
      rfl
    rw [e]
    exact H _ _ _ _ _ _ _
  · obtain ⟨x2, g, c2, c3, c4, c5, c6, c7⟩ := s
    have hx2 : x2 = nI (if 100 * k0 + 10 * k1 + k2 < i then 1 else 0) := h
    have HW : ∀ (y g : Int32) (c2 c3 c4 c5 c6 c7 : Nat → Int32), y = nI (if 100 * k0 + 10 * k1 + k2 < i + 1 then 1 else 0) → wX_parts_27 post 0 n y (nI (i + 1)) g a1 c2 c3 c4 c5 c6 c7 := fun y g c2 c3 c4 c5 c6 c7 hy => hw (y, g, c2, c3, c4, c5, c6, c7) hy
    show wX_parts_27 post 0 (n + 1) x2 (nI i) g a1 c2 c3 c4 c5 c6 c7
    refine pk_lt 600 i (fun z => absurd z (by omega)) (fun _ => qd_xsh (fun s => br_f (by decide) ?_) (fun ns => br_t rfl (nm_r (nI_1 i) (HW _ _ _ _ _ _ _ _ ?_))))
    · obtain ⟨p, q, r, g1, g2, g3, e⟩ := s
      have ei : i = 100 * p + 10 * q + r := (nI_eq (by omega) (by omega)).mp e
      rw [e]
      show wpX_countFillings _ _ (nI (100 * 0 + 10 * 0 + 0)) (nI (100 * p + 10 * q + r))
      refine qd_count (k0 := k0) (k1 := k1) (k2 := k2) hk g3 (by omega) e0 e1 e2 (fun hn a2' a3' => ?_) (fun l0 l1 l2 ls ψ hψ a2' a3' a4' a5' a6' a7' c3' hc c7' => ?_)
      · refine nm_r (e' := x2) (Int32.add_zero x2) (nm_r (e' := nI (i + 1)) (by rw [← e, nI_1]) (HW _ _ _ _ _ _ _ _ ?_))
        have ne : i ≠ 100 * k0 + 10 * k1 + k2 := by
          intro w
          have D := (qd_dig hk g3).mp (by rw [← w, ← ei])
          exact hn (by omega)
        rw [hx2]
        by_cases w : 100 * k0 + 10 * k1 + k2 < i
        · rw [if_pos w, if_pos (by omega)]
        · rw [if_neg w, if_neg (by omega)]
      · have k0e : k0 = p := by omega
        have k1e : k1 = q := by omega
        have k2e : k2 = r := by omega
        rw [show p - k0 + (q - k1) + (r - k2) = 0 by omega]
        refine qd_try0 (hψ _ _ _ _ _ _ _ _ _ ?_)
        refine nm_r (e' := nI 1) ?_ (nm_r (e' := nI (i + 1)) (by rw [← e, nI_1]) (HW _ _ _ _ _ _ _ _ ?_))
        · rw [hx2, if_neg (by omega)]
          rfl
        · rw [if_pos (by omega)]
    · have ne : i ≠ 100 * k0 + 10 * k1 + k2 := fun z => ns ⟨k0, k1, k2, hk1, hk2, hk, by rw [z]⟩
      rw [hx2]
      by_cases w : 100 * k0 + 10 * k1 + k2 < i
      · rw [if_pos w, if_pos (by omega)]
      · rw [if_neg w, if_neg (by omega)]
end
section
theorem qd_195 {post : Int32 → St0 → Prop} {mc ms kc ks : Nat} {x8 z0 f : Int32} {a1 a2 a3 a4 a5 a6 a7 : Nat → Int32} {k0 k1 k2 : Nat} (hk1 : k2 ≤ k1) (hk2 : k1 ≤ k0) (hk : k0 + k1 + k2 ≤ 6) (e0 : a1 0 = nI k0) (e1 : a1 1 = nI k1) (e2 : a1 2 = nI k2) (hne : ¬ z0 = x8) (H : post 1 ()) :
    wL_lawOf_195 post mc ms x8 z0 kc ks f a1 a2 a3 a4 a5 a6 a7 := by
  unfold wL_lawOf_195
  exact br_f hne (qd_parts hk1 hk2 hk e0 e1 e2 (fun f' a2' a3' a4' a5' a6' a7' => br_t rfl H))
theorem qd_132 {post : Int32 → St0 → Prop} {mc ms kc ks : Nat} {x1 z0 z1 f : Int32} {a1 a2 a3 a4 a5 a6 a7 : Nat → Int32} {k0 k1 k2 : Nat} (hk1 : k2 ≤ k1) (hk2 : k1 ≤ k0) (hk : k0 + k1 + k2 ≤ 6) (e0 : a1 0 = nI k0) (e1 : a1 1 = nI k1) (e2 : a1 2 = nI k2) (hz : z1 = z0) (H : post 1 ()) :
    wL_lawOf_132 post mc ms x1 z0 z1 kc ks f a1 a2 a3 a4 a5 a6 a7 := by
  unfold wL_lawOf_132
  refine br_t hz (qd_wc e0 e1 hk2 (by omega) (fun n => ?_) (fun s n hn => ?_))
  · have T : wL_lawOf_181 post mc ms (-1) kc ks f a1 a2 a3 a4 a5 a6 a7 := br_t rfl (qd_195 hk1 hk2 hk e0 e1 e2 (by decide) H)
    exact br_c (fun _ => T) (fun g0 => br_c (fun _ => T) (fun g1 => ⟨by decide, by decide, br_c (fun _ => T) (fun g2 => ⟨by decide, br_c (fun _ => T) (fun g3 => absurd ⟨g0, g1, g2, g3⟩ n)⟩)⟩))
  · have hm : ¬ nI n = -1 := fun e => absurd (show nI n < 0 from by rw [e]; decide) (nI_pos (by omega))
    have T : wL_lawOf_182 post mc ms (nI n) 1 kc ks f a1 a2 a3 a4 a5 a6 a7 := br_f hm (qd_195 hk1 hk2 hk e0 e1 e2 (by decide) H)
    exact br_f s.1 (br_f s.2.1 ⟨by decide, by decide, br_f s.2.2.1 ⟨by decide, br_f s.2.2.2 T⟩⟩)
theorem qd_89 {post : Int32 → St0 → Prop} {mc ms kc ks : Nat} {x0 x1 z0 z1 f : Int32} {a1 a2 a3 a4 a5 a6 a7 : Nat → Int32} (z : ∀ j, a1 j = 0) (hz : z1 = z0) (H : post 1 ()) :
    wL_lawOf_89 post mc ms x0 x1 z0 z1 kc ks f a1 a2 a3 a4 a5 a6 a7 := by
  unfold wL_lawOf_89
  refine br_t hz (qd_lsh (fun s => qd_keep (fun n => absurd s n) (fun p q r h1 h2 h3 e a1' f0 f1 f2 => ?_)) (fun n => qd_keep (fun _ => ?_) (fun p q r h1 h2 h3 e => absurd ⟨p, q, r, h1, h2, h3, e⟩ n)))
  · exact br_f (by decide) ⟨by decide, by decide, by decide, by decide, qd_132 h1 h2 h3 f0 f1 f2 rfl H⟩
  · exact br_t rfl (qd_132 (k0 := 0) (k1 := 0) (k2 := 0) (by omega) (by omega) (by omega) (z 0) (z 1) (z 2) rfl H)
theorem qd_68 {post : Int32 → St0 → Prop} {mc ms kc ks : Nat} {x0 x1 x2 z0 z1 f : Int32} {a1 a2 a3 a4 a5 a6 a7 : Nat → Int32} (z : ∀ j, a1 j = 0) (hz : z1 = z0) (H : post 1 ()) :
    wL_lawOf_68 post mc ms x0 x1 x2 z0 z1 kc ks f a1 a2 a3 a4 a5 a6 a7 := by
  unfold wL_lawOf_68
  refine br_t hz (qd_greatest z (fun s => qd_lsh (fun _ => br_f (by decide) (qd_89 z rfl H)) (fun n => absurd s n)) (fun n => qd_lsh (fun s => absurd s n) (fun _ => br_t rfl (qd_89 z rfl H))))
theorem qd_lawOf {post : Int32 → St0 → Prop} {p0 p1 p2 p3 : Int32} (H : post 1 ()) : wpL_lawOf post 38 592 () p0 p1 p2 p3 := by
  unfold wpL_lawOf
  refine ⟨by omega, by omega, 7, 31, by omega, by omega, ?_⟩
  unfold wpX_init
  refine ⟨by omega, by omega, by omega, by omega, by omega, by omega, by omega, by omega, by omega, by omega, by omega, by omega, by omega, by omega, ?_⟩
  have z : ∀ j, (fun _ : Nat => (0 : Int32)) j = 0 := fun _ => rfl
  refine qd_fillings z (br_t rfl (qd_orders z (br_t rfl (qd_times z (fun n => ?_) (fun sx sy c c1 c0 f' a2' a3' a4' a5' a6' a7' => ?_)))))
  · refine qd_lsh (fun sx => br_f (by decide) (qd_lsh (fun sy => absurd ⟨sx, sy⟩ n) (fun _ => br_t rfl (qd_68 z rfl H)))) (fun _ => br_t rfl (qd_68 z rfl H))
  · refine qd_lsh (fun _ => br_f (by decide) (qd_lsh (fun _ => br_f (by decide) (br_c (fun e => qd_68 z (c1 e) H) (fun e => qd_68 z (c0 e) H))) (fun n => absurd sy n))) (fun n => absurd sx n)
theorem qd_cell {post : Int32 → Prop} {L : Nat} {xs : Nat → Int32} {k : Nat} (hL : L ≤ 4) (hk : k < 4) (H : ∀ v, post v) : wpL_cellAt post L xs () (nI k) := by
  unfold wpL_cellAt
  exact pk_le L k (fun _ => H _) (fun z => ⟨pk_in k L z, H _⟩)
theorem i_vc (xs : Nat → Int32) (L : Nat) (hL : L ≤ 4) : wpL_law (fun r => r = 1) L xs := by
  unfold wpL_law
  refine qd_cell (k := 0) hL (by omega) (fun v0 => qd_cell (k := 1) hL (by omega) (fun v1 => qd_cell (k := 2) hL (by omega) (fun v2 => qd_cell (k := 3) hL (by omega) (fun v3 => ?_))))
  exact ⟨38, 592, by omega, by omega, qd_lawOf rfl⟩
end
