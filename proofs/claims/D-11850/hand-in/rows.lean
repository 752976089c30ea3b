section
/-- how many of the first m places of a are not 0 -/
def fp_cn (a : Nat → Int32) : Nat → Nat
  | 0 => 0
  | m + 1 => fp_cn a m + if a m = 0 then 0 else 1
theorem fp_cn_s (a : Nat → Int32) (m : Nat) : fp_cn a (m + 1) = fp_cn a m + if a m = 0 then 0 else 1 := rfl
theorem fp_cn_le (a : Nat → Int32) (m : Nat) : fp_cn a m ≤ m := by
  induction m with
  | zero => exact Nat.le_refl 0
  | succ m ih =>
    rw [fp_cn_s]
    split <;> omega
theorem fp_cn_out (a : Nat → Int32) (x : Int32) (m y : Nat) (h : m ≤ y) : fp_cn (upd a y x) m = fp_cn a m := by
  induction m with
  | zero => rfl
  | succ m ih =>
    have e : upd a y x m = a m := pk_un (by omega)
    rw [fp_cn_s, fp_cn_s, ih (by omega), e]
theorem fp_cn_put (a : Nat → Int32) (m y : Nat) (h : y < m) (h0 : a y = 0) : fp_cn (upd a y 1) m = fp_cn a m + 1 := by
  induction m with
  | zero => omega
  | succ m ih =>
    rw [fp_cn_s, fp_cn_s]
    by_cases e : y = m
    · subst e
      rw [fp_cn_out a 1 y y (Nat.le_refl _), pk_us, h0, if_pos rfl, if_neg (by decide)]
    · have e' : upd a y 1 m = a m := pk_un (Ne.symm e)
      rw [ih (by omega), e']
      exact Nat.add_right_comm _ _ _
theorem fp_cn_0 (a : Nat → Int32) (m : Nat) (h : ∀ j, j < m → a j = 0) : fp_cn a m = 0 := by
  induction m with
  | zero => rfl
  | succ m ih => rw [fp_cn_s, ih (fun j hj => h j (by omega)), h m (by omega), if_pos rfl, Nat.add_zero]
/-- the minus one is no small number -/
theorem fp_m1 {f : Nat} (h : f < 2 ^ 31) : ¬ (-1 : Int32) = nI f := fun z => nI_pos h (by rw [← z]; decide)
theorem fp_ifc {α : Type} {p q : Prop} {hp : Decidable p} {hq : Decidable q} {x y : α} (h : p ↔ q) : (if p then x else y) = if q then x else y := by
  by_cases c : p
  · rw [if_pos c, if_pos (h.mp c)]
  · rw [if_neg c, if_neg (fun t => c (h.mpr t))]
theorem fp_m1lt : (-1 : Int32) < 0 := by decide
theorem fp_10 : ¬ (1 : Int32) = 0 := by decide
theorem fp_01 : ¬ (0 : Int32) = 1 := by decide
/-- of the edges below e that take part, those of bundle i -/
def fp_ct (b : Nat → Nat) (T : Nat → Bool) : Nat → Nat → Nat
  | 0, _ => 0
  | e + 1, i => fp_ct b T e i + if T e = true ∧ b e = i then 1 else 0
theorem fp_ct_s (b : Nat → Nat) (T : Nat → Bool) (e i : Nat) : fp_ct b T (e + 1) i = fp_ct b T e i + if T e = true ∧ b e = i then 1 else 0 := rfl
theorem fp_ct_y {b : Nat → Nat} {T : Nat → Bool} {e i : Nat} (h : T e = true) (hb : b e = i) : fp_ct b T (e + 1) i = fp_ct b T e i + 1 := by
  rw [fp_ct_s, if_pos ⟨h, hb⟩]
theorem fp_ct_n {b : Nat → Nat} {T : Nat → Bool} {e i : Nat} (h : ¬ (T e = true ∧ b e = i)) : fp_ct b T (e + 1) i = fp_ct b T e i := by
  rw [fp_ct_s, if_neg h, Nat.add_zero]
theorem fp_ct_has {b : Nat → Nat} {T : Nat → Bool} {f i : Nat} : ∀ e, f < fp_ct b T e i → ∃ e', e' < e ∧ T e' = true ∧ b e' = i ∧ fp_ct b T e' i = f := by
  intro e
  induction e with
  | zero => intro h; exact absurd h (Nat.not_lt_zero _)
  | succ e ih =>
    intro h
    by_cases c : T e = true ∧ b e = i
    · rw [fp_ct_y c.1 c.2] at h
      by_cases z : f < fp_ct b T e i
      · obtain ⟨e', h1, h2⟩ := ih z
        exact ⟨e', by omega, h2⟩
      · exact ⟨e, by omega, c.1, c.2, by omega⟩
    · rw [fp_ct_n c] at h
      obtain ⟨e', h1, h2⟩ := ih h
      exact ⟨e', by omega, h2⟩
theorem fp_ct_le {b : Nat → Nat} {T : Nat → Bool} {i e' : Nat} : ∀ e, e' ≤ e → fp_ct b T e' i ≤ fp_ct b T e i := by
  intro e
  induction e with
  | zero => intro h; rw [Nat.le_zero.mp h]; exact Nat.le_refl _
  | succ e ih =>
    intro h
    by_cases z : e' = e + 1
    · rw [z]; exact Nat.le_refl _
    · exact Nat.le_trans (ih (by omega)) (by rw [fp_ct_s]; exact Nat.le_add_right _ _)
theorem fp_ct_lt {b : Nat → Nat} {T : Nat → Bool} {i e' e : Nat} (h : e' < e) (hT : T e' = true) (hb : b e' = i) : fp_ct b T e' i < fp_ct b T e i := by
  have h1 : fp_ct b T (e' + 1) i ≤ fp_ct b T e i := fp_ct_le e h
  rw [fp_ct_y hT hb] at h1
  exact h1
theorem fp_ct_congr {b : Nat → Nat} {T T' : Nat → Bool} {i : Nat} : ∀ e, (∀ e', e' < e → T e' = T' e') → fp_ct b T e i = fp_ct b T' e i := by
  intro e
  induction e with
  | zero => intro _; rfl
  | succ e ih =>
    intro h
    rw [fp_ct_s, fp_ct_s, ih (fun e' h' => h e' (by omega)), h e (by omega)]
theorem fp_ct_congrb {b b' : Nat → Nat} {T : Nat → Bool} {i : Nat} : ∀ e, (∀ e', e' < e → b e' = b' e') → fp_ct b T e i = fp_ct b' T e i := by
  intro e
  induction e with
  | zero => intro _; rfl
  | succ e ih =>
    intro h
    rw [fp_ct_s, fp_ct_s, ih (fun e' h' => h e' (by omega)), h e (by omega)]
/-- none beyond c -/
theorem fp_ct_cut {b : Nat → Nat} {T : Nat → Bool} {i c : Nat} : ∀ d, (∀ e, c ≤ e → e < c + d → T e = false) → fp_ct b T (c + d) i = fp_ct b T c i := by
  intro d
  induction d with
  | zero => intro _; rfl
  | succ d ih =>
    intro h
    rw [← ih (fun e h1 h2 => h e h1 (by omega))]
    show fp_ct b T (c + d + 1) i = fp_ct b T (c + d) i
    have hf := h (c + d) (by omega) (by omega)
    exact fp_ct_n (fun z => by rw [hf] at z; exact absurd z.1 (by decide))
/-- one edge taken out -/
theorem fp_ct_rem {b : Nat → Nat} {T T' : Nat → Bool} {x i : Nat} (hx : T x = true) (hx' : T' x = false) (h : ∀ e, e ≠ x → T' e = T e) : ∀ e, fp_ct b T e i = fp_ct b T' e i + if x < e ∧ b x = i then 1 else 0 := by
  intro e
  induction e with
  | zero => simp [fp_ct]
  | succ e ih =>
    by_cases z : e = x
    · subst z
      have h1 : fp_ct b T' (e + 1) i = fp_ct b T' e i := fp_ct_n (fun t => by rw [hx'] at t; exact absurd t.1 (by decide))
      rw [if_neg (fun t => absurd t.1 (Nat.lt_irrefl _)), Nat.add_zero] at ih
      rw [h1, fp_ct_s, ih]
      by_cases y : b e = i
      · rw [if_pos ⟨hx, y⟩, if_pos ⟨Nat.lt_succ_self _, y⟩]
      · rw [if_neg (fun t => y t.2), if_neg (fun t => y t.2)]
    · rw [fp_ct_s, fp_ct_s, h e z, ih]
      have e2 : (x < e + 1 ∧ b x = i) ↔ (x < e ∧ b x = i) := ⟨fun t => ⟨by omega, t.2⟩, fun t => ⟨by omega, t.2⟩⟩
      rw [fp_ifc e2]
      exact Nat.add_right_comm _ _ _
/-- how many of the edges below e take part -/
def fp_tn (T : Nat → Bool) : Nat → Nat
  | 0 => 0
  | e + 1 => fp_tn T e + if T e = true then 1 else 0
theorem fp_tn_s (T : Nat → Bool) (e : Nat) : fp_tn T (e + 1) = fp_tn T e + if T e = true then 1 else 0 := rfl
theorem fp_tn_le (T : Nat → Bool) (e : Nat) : fp_tn T e ≤ e := by
  induction e with
  | zero => exact Nat.le_refl 0
  | succ e ih =>
    rw [fp_tn_s]
    split <;> omega
/-- the sum over the five bundles -/
def fp_sm (f : Nat → Nat) : Nat := f 0 + f 1 + f 2 + f 3 + f 4
theorem fp_sm_eq {f g : Nat → Nat} (h : ∀ i, i < 5 → f i = g i) : fp_sm f = fp_sm g := by
  unfold fp_sm
  rw [h 0 (by omega), h 1 (by omega), h 2 (by omega), h 3 (by omega), h 4 (by omega)]
theorem fp_5 {b : Nat} (h : b < 5) : b = 0 ∨ b = 1 ∨ b = 2 ∨ b = 3 ∨ b = 4 := by omega
theorem fp_sm_up {f g : Nat → Nat} {b d : Nat} (hb : b < 5) (h : ∀ i, i ≠ b → g i = f i) (h1 : g b = f b + d) : fp_sm g = fp_sm f + d := by
  unfold fp_sm
  rcases fp_5 hb with e | e | e | e | e
  · subst e
    have k1 := h 1 (by omega)
    have k2 := h 2 (by omega)
    have k3 := h 3 (by omega)
    have k4 := h 4 (by omega)
    omega
  · subst e
    have k1 := h 0 (by omega)
    have k2 := h 2 (by omega)
    have k3 := h 3 (by omega)
    have k4 := h 4 (by omega)
    omega
  · subst e
    have k1 := h 0 (by omega)
    have k2 := h 1 (by omega)
    have k3 := h 3 (by omega)
    have k4 := h 4 (by omega)
    omega
  · subst e
    have k1 := h 0 (by omega)
    have k2 := h 1 (by omega)
    have k3 := h 2 (by omega)
    have k4 := h 4 (by omega)
    omega
  · subst e
    have k1 := h 0 (by omega)
    have k2 := h 1 (by omega)
    have k3 := h 2 (by omega)
    have k4 := h 3 (by omega)
    omega
theorem fp_sm_ge {f : Nat → Nat} {b : Nat} (hb : b < 5) : f b ≤ fp_sm f := by
  unfold fp_sm
  rcases fp_5 hb with e | e | e | e | e <;> subst e <;> omega
theorem fp_tn_sm {b : Nat → Nat} {T : Nat → Bool} : ∀ e, (∀ e', e' < e → T e' = true → b e' < 5) → fp_tn T e = fp_sm (fp_ct b T e) := by
  intro e
  induction e with
  | zero => intro _; rfl
  | succ e ih =>
    intro h
    rw [fp_tn_s, ih (fun e' h' => h e' (by omega))]
    by_cases c : T e = true
    · rw [if_pos c]
      exact (fp_sm_up (h e (by omega) c) (fun i hi => fp_ct_n (fun z => hi z.2.symm)) (fp_ct_y c rfl)).symm
    · rw [if_neg c, Nat.add_zero]
      exact fp_sm_eq (fun i _ => (fp_ct_n (fun z => c z.1)).symm)
/-- some bundle of [u, v) holds fewer than k -/
def fp_op (m : Nat → Nat) (k u : Nat) : Nat → Bool
  | 0 => false
  | v + 1 => fp_op m k u v || decide (u ≤ v ∧ m v < k)
theorem fp_op_s (m : Nat → Nat) (k u v : Nat) : fp_op m k u (v + 1) = (fp_op m k u v || decide (u ≤ v ∧ m v < k)) := rfl
theorem fp_op_iff {m : Nat → Nat} {k u : Nat} : ∀ v, fp_op m k u v = true ↔ ∃ i, u ≤ i ∧ i < v ∧ m i < k := by
  intro v
  induction v with
  | zero => exact ⟨fun h => absurd (show false = true from h) (by decide), fun ⟨i, _, h, _⟩ => absurd h (Nat.not_lt_zero _)⟩
  | succ v ih =>
    rw [fp_op_s, Bool.or_eq_true, ih, decide_eq_true_iff]
    constructor
    · rintro (⟨i, h1, h2, h3⟩ | ⟨h1, h2⟩)
      · exact ⟨i, h1, by omega, h3⟩
      · exact ⟨v, h1, by omega, h2⟩
    · rintro ⟨i, h1, h2, h3⟩
      by_cases z : i = v
      · subst z
        exact Or.inr ⟨h1, h3⟩
      · exact Or.inl ⟨i, h1, by omega, h3⟩
theorem fp_op_congr {m m' : Nat → Nat} {k u : Nat} : ∀ v, (∀ i, i < v → m i = m' i) → fp_op m k u v = fp_op m' k u v := by
  intro v
  induction v with
  | zero => intro _; rfl
  | succ v ih =>
    intro h
    rw [fp_op_s, fp_op_s, ih (fun i hi => h i (by omega)), h v (by omega)]
theorem fp_op_lo {m : Nat → Nat} {k u : Nat} : ∀ v, v ≤ u → fp_op m k u v = false := by
  intro v
  induction v with
  | zero => intro _; rfl
  | succ v ih =>
    intro h
    rw [fp_op_s, ih (by omega), decide_eq_false (by omega), Bool.or_false]
end
section
/-- the graph: the ends of the edges that take part -/
def fp_G (n : Nat) (T : Nat → Bool) (lo hi : Nat → Nat) (a1 a2 : Nat → Int32) : Prop := ∀ e, e < 17 → T e = true → a1 e = nI (lo e) ∧ a2 e = nI (hi e) ∧ lo e < hi e ∧ hi e < n
/-- the mask x is the set T -/
def fp_K (x : Int32) (T : Nat → Bool) : Prop := ∀ e, e < 17 → (x >>> (nI e &&& 31)) &&& 1 = if T e = true then 1 else 0
/-- forest f has an edge from i -/
def fp_B (T : Nat → Bool) (lo : Nat → Nat) (a3 : Nat → Int32) (f i : Nat) : Prop := ∃ e, e < 17 ∧ T e = true ∧ a3 e = nI f ∧ lo e = i
/-- the edges of forest f join neighbours -/
def fp_U (T : Nat → Bool) (lo hi : Nat → Nat) (a3 : Nat → Int32) (f : Nat) : Prop := ∀ e, e < 17 → T e = true → a3 e = nI f → hi e = lo e + 1
theorem fp_other {post : Int32 → Prop} {n e x : Nat} {T : Nat → Bool} {lo hi : Nat → Nat} {fn fc tk pv : Int32} {a1 a2 a3 a4 a5 a6 a7 a8 a9 : Nat → Int32} (hn : n ≤ 7) (hG : fp_G n T lo hi a1 a2) (hK : fp_K tk T) (he : e < 17) (hx : x < 7)
    (Hm : ¬ (T e = true ∧ (lo e = x ∨ hi e = x)) → post (-1))
    (Hy : ∀ y, y < n → T e = true → ((lo e = x ∧ y = hi e) ∨ (hi e = x ∧ lo e ≠ x ∧ y = lo e)) → post (nI y)) :
    wpX_other post (fn, fc, tk, pv, a1, a2, a3, a4, a5, a6, a7, a8, a9) (nI e) (nI x) := by
  unfold wpX_other
  dsimp only
  rw [hK e he, nI_clamp (show e < 2 ^ 31 by omega)]
  by_cases hT : T e = true
  · obtain ⟨g1, g2, g3, g4⟩ := hG e he hT
    rw [if_pos hT, g1, g2]
    refine br_f fp_10 ⟨pk_in e 17 he, ?_⟩
    exact pk_eq (lo e) x (fun z => ⟨pk_in e 17 he, Hy (hi e) g4 hT (Or.inl ⟨z, rfl⟩)⟩) (fun z => ⟨pk_in e 17 he, pk_eq (hi e) x (fun y => ⟨pk_in e 17 he, Hy (lo e) (by omega) hT (Or.inr ⟨y, z, rfl⟩)⟩) (fun y => Hm (fun t => t.2.elim z y))⟩)
  · rw [if_neg hT]
    exact br_t rfl (Hm (fun t => hT t.1))
/-- what is seen: an interval round u, via leads back to u -/
def fp_SI (n : Nat) (T : Nat → Bool) (lo : Nat → Nat) (a3 : Nat → Int32) (f u w : Nat) (a7 a8 a9 : Nat → Int32) : Prop :=
  (∀ j, j < n → a8 j = 0 ∨ a8 j = 1) ∧ w = fp_cn a8 n ∧ a8 u = 1 ∧ a7 u = -1 ∧
  (∀ q, q < w → ∃ y, y < n ∧ a9 q = nI y ∧ a8 y = 1) ∧
  (∀ y, y < n → a8 y = 1 → ∃ q, q < w ∧ a9 q = nI y) ∧
  (∀ y, y < n → u < y → a8 y = 1 → a8 (y - 1) = 1 ∧ ∃ e, e < 17 ∧ T e = true ∧ a3 e = nI f ∧ lo e = y - 1 ∧ a7 y = nI e) ∧
  (∀ y, y < u → a8 y = 1 → a8 (y + 1) = 1)
/-- of the edges below E, those of forest f lead from x to what is seen -/
def fp_SC (T : Nat → Bool) (lo : Nat → Nat) (a3 : Nat → Int32) (f : Nat) (a8 : Nat → Int32) (x E : Nat) : Prop := ∀ e, e < E → T e = true → a3 e = nI f → lo e = x → a8 (x + 1) = 1
def fp_S8 (n : Nat) (T : Nat → Bool) (lo : Nat → Nat) (a3 : Nat → Int32) (f u g x E w : Nat) (a7 a8 a9 : Nat → Int32) : Prop :=
  fp_SI n T lo a3 f u w a7 a8 a9 ∧ g < w ∧ a9 g = nI x ∧ a8 x = 1 ∧ (∀ q, q < g → ∀ y, y < n → a9 q = nI y → fp_SC T lo a3 f a8 y 17) ∧ fp_SC T lo a3 f a8 x E
theorem fp_S8_skip {n : Nat} {T : Nat → Bool} {lo : Nat → Nat} {a3 : Nat → Int32} {f u g x E w : Nat} {a7 a8 a9 : Nat → Int32} (h : fp_S8 n T lo a3 f u g x E w a7 a8 a9) (hs : T E = true → a3 E = nI f → lo E = x → a8 (x + 1) = 1) : fp_S8 n T lo a3 f u g x (E + 1) w a7 a8 a9 := by
  obtain ⟨s, c1, c2, c3, c4, c5⟩ := h
  refine ⟨s, c1, c2, c3, c4, ?_⟩
  intro e he hT h3 hl
  by_cases z : e = E
  · subst z
    exact hs hT h3 hl
  · exact c5 e (by omega) hT h3 hl
theorem fp_S8_add {n : Nat} {T : Nat → Bool} {lo : Nat → Nat} {a3 : Nat → Int32} {f u g x E w y : Nat} {a7 a8 a9 : Nat → Int32} (h : fp_S8 n T lo a3 f u g x E w a7 a8 a9) (hx : x < n) (hE : E < 17) (hT : T E = true) (h3 : a3 E = nI f) (hy : y < n)
    (hc : (lo E = x ∧ y = x + 1) ∨ (y = lo E ∧ x = y + 1)) (h8 : a8 y = 0) : w < n ∧ fp_S8 n T lo a3 f u g x (E + 1) (w + 1) (upd a7 y (nI E)) (upd a8 y 1) (upd a9 w (nI y)) := by
  obtain ⟨⟨s1, s2, s3, s4, s5, s6, s7, s8⟩, c1, c2, c3, c4, c5⟩ := h
  have hw : fp_cn (upd a8 y 1) n = w + 1 := by rw [fp_cn_put a8 n y hy h8, s2]
  have hwn : w < n := by
    have := fp_cn_le (upd a8 y 1) n
    omega
  have nz : ∀ j, a8 j = 1 → j ≠ y := by
    intro j hj z
    rw [z, h8] at hj
    exact fp_01 hj
  have up : ∀ j, a8 j = 1 → upd a8 y 1 j = 1 := by
    intro j hj
    rw [pk_un (nz j hj)]
    exact hj
  have dn : ∀ j, upd a8 y 1 j = 1 → j = y ∨ (j ≠ y ∧ a8 j = 1) := by
    intro j hj
    by_cases z : j = y
    · exact Or.inl z
    · rw [pk_un z] at hj
      exact Or.inr ⟨z, hj⟩
  refine ⟨hwn, ⟨?_, hw.symm, up u s3, ?_, ?_, ?_, ?_, ?_⟩, by omega, ?_, up x c3, ?_, ?_⟩
  · intro j hj
    by_cases z : j = y
    · rw [z, pk_us]
      exact Or.inr rfl
    · rw [pk_un z]
      exact s1 j hj
  · rw [pk_un (nz u s3)]
    exact s4
  · intro q hq
    by_cases z : q = w
    · exact ⟨y, hy, by rw [z, pk_us], pk_us⟩
    · obtain ⟨y', p1, p2, p3⟩ := s5 q (by omega)
      exact ⟨y', p1, by rw [pk_un z]; exact p2, up y' p3⟩
  · intro y' hy' h'
    rcases dn y' h' with z | ⟨z, z'⟩
    · exact ⟨w, by omega, by rw [pk_us, z]⟩
    · obtain ⟨q, p1, p2⟩ := s6 y' hy' z'
      exact ⟨q, by omega, by rw [pk_un (by omega)]; exact p2⟩
  · intro y' hy' hu' h'
    rcases dn y' h' with z | ⟨z, z'⟩
    · subst z
      rcases hc with ⟨l1, l2⟩ | ⟨l1, l2⟩
      · exact ⟨by rw [show y' - 1 = x by omega]; exact up x c3, E, hE, hT, h3, by omega, pk_us⟩
      · have t := (s7 x hx (by omega) c3).1
        rw [show x - 1 = y' by omega, h8] at t
        exact absurd t fp_01
    · obtain ⟨p, e', q1, q2, q3, q4, q5⟩ := s7 y' hy' hu' z'
      exact ⟨up _ p, e', q1, q2, q3, q4, by rw [pk_un z]; exact q5⟩
  · intro y' hy' h'
    rcases dn y' h' with z | ⟨z, z'⟩
    · subst z
      rcases hc with ⟨l1, l2⟩ | ⟨l1, l2⟩
      · have t := s8 x (by omega) c3
        rw [← l2, h8] at t
        exact absurd t fp_01
      · rw [← l2]
        exact up x c3
    · exact up _ (s8 y' hy' z')
  · rw [pk_un (by omega)]
    exact c2
  · intro q hq y' hy' hq'
    rw [pk_un (by omega)] at hq'
    exact fun e' k1 k2 k3 k4 => up _ (c4 q hq y' hy' hq' e' k1 k2 k3 k4)
  · intro e' he' hT' h3' hl'
    by_cases z : e' = E
    · subst z
      rcases hc with ⟨l1, l2⟩ | ⟨l1, l2⟩
      · rw [← l2]
        exact pk_us
      · omega
    · exact up _ (c5 e' (by omega) hT' h3' hl')
theorem fp_80 {post : Int32 → St2 → Prop} {J54 : Int32 → Int32 → (Nat → Int32) → (Nat → Int32) → (Nat → Int32) → (Nat → Int32) → (Nat → Int32) → (Nat → Int32) → (Nat → Int32) → (Nat → Int32) → (Nat → Int32) → Prop} {n f u g x : Nat} {T : Nat → Bool} {lo hi : Nat → Nat} {x3 fc tk pv : Int32} {a1 a2 a3 a4 a5 a6 : Nat → Int32}
    (hn : n ≤ 7) (hG : fp_G n T lo hi a1 a2) (hK : fp_K tk T) (hU : fp_U T lo hi a3 f) (hx : x < n)
    (H : ∀ w a7 a8 a9, fp_S8 n T lo a3 f u g x 17 w a7 a8 a9 → J54 (nI w) (nI (g + 1)) a1 a2 a3 a4 a5 a6 a7 a8 a9) :
    ∀ (d e w : Nat) (a7 a8 a9 : Nat → Int32), e + d = 17 → fp_S8 n T lo a3 f u g x e w a7 a8 a9 → wX_search_80 post J54 (nI f) x3 (nI g) (nI x) (nI n) fc tk pv (d + 1) (nI w) (nI e) a1 a2 a3 a4 a5 a6 a7 a8 a9 := by
  intro d
  induction d with
  | zero =>
    intro e w a7 a8 a9 he h
    have he' : e = 17 := by omega
    subst he'
    exact pk_lt 16 17 (fun _ => nm_r (nI_1 g) (H w a7 a8 a9 h)) (fun z => absurd z (by omega))
  | succ d ih =>
    intro e w a7 a8 a9 he h
    have he17 : e < 17 := by omega
    have hx7 : x < 7 := by omega
    refine pk_lt 16 e (fun z => absurd z (by omega)) (fun _ => ?_)
    refine fp_other hn hG hK he17 hx7 (fun hm => ?_) (fun y hy hT hc => ?_)
    · refine br_t fp_m1lt (nm_r (nI_1 e) (ih (e + 1) w a7 a8 a9 (by omega) (fp_S8_skip h (fun t1 t2 t3 => absurd ⟨t1, Or.inl t3⟩ hm))))
    · skip
      have hw7 : w < 2 ^ 31 := by
        have t := h.1.2.1
        have t2 := fp_cn_le a8 n
        omega
      rw [nI_clamp (show e < 2 ^ 31 by omega), nI_clamp (show y < 2 ^ 31 by omega), nI_clamp hw7]
      refine br_f (nI_pos (by omega)) ⟨pk_in e 17 he17, ?_⟩
      by_cases h3 : a3 e = nI f
      · refine br_t h3 ⟨pk_in y 7 (by omega), ?_⟩
        have hl := hU e he17 hT h3
        by_cases h8 : a8 y = 0
        · have hadd := fp_S8_add (y := y) h hx he17 hT h3 hy (hc.elim (fun t => Or.inl ⟨t.1, by omega⟩) (fun t => Or.inr ⟨t.2.2, by omega⟩)) h8
          have hw : w < 7 := by omega
          exact br_t h8 ⟨pk_in y 7 (by omega), nm_e ⟨pk_in y 7 (by omega), nm_e ⟨pk_in w 7 hw, nm_e (nm_r (nI_1 w) (nm_r (nI_1 e) (ih (e + 1) (w + 1) _ _ _ (by omega) hadd.2)))⟩⟩⟩
        · refine br_f h8 (nm_r (nI_1 e) (ih (e + 1) w a7 a8 a9 (by omega) (fp_S8_skip h (fun t1 t2 t3 => ?_))))
          rcases hc with ⟨k1, k2⟩ | ⟨k1, k2, k3⟩
          · rcases h.1.1 y hy with z | z
            · exact absurd z h8
            · rw [show x + 1 = y by omega]
              exact z
          · exact absurd t3 k2
      · exact br_f h3 (nm_r (nI_1 e) (ih (e + 1) w a7 a8 a9 (by omega) (fp_S8_skip h (fun t1 t2 t3 => absurd t2 h3))))
theorem fp_54 {post : Int32 → St2 → Prop} {n f u v : Nat} {T : Nat → Bool} {lo hi : Nat → Nat} {fc tk pv : Int32} {a1 a2 a3 a4 a5 a6 : Nat → Int32}
    (hn : n ≤ 7) (hG : fp_G n T lo hi a1 a2) (hK : fp_K tk T) (hU : fp_U T lo hi a3 f) (hv : v < n)
    (H : ∀ w a7 a8 a9, fp_SI n T lo a3 f u w a7 a8 a9 → (∀ y, y < n → a8 y = 1 → fp_SC T lo a3 f a8 y 17) → post (a8 v) (nI n, fc, tk, pv, a1, a2, a3, a4, a5, a6, a7, a8, a9)) :
    ∀ (d g w : Nat) (a7 a8 a9 : Nat → Int32), g + d = 7 → fp_SI n T lo a3 f u w a7 a8 a9 → (∀ q, q < g → ∀ y, y < n → a9 q = nI y → fp_SC T lo a3 f a8 y 17) → wX_search_54 post (nI f) (nI v) (nI n) fc tk pv (d + 1) (nI w) (nI g) a1 a2 a3 a4 a5 a6 a7 a8 a9 := by
  have fin : ∀ (g w : Nat) (a7 a8 a9 : Nat → Int32), w ≤ g → fp_SI n T lo a3 f u w a7 a8 a9 → (∀ q, q < g → ∀ y, y < n → a9 q = nI y → fp_SC T lo a3 f a8 y 17) → vp_in (nI v) 7 ∧ (narrow .boolean (.int (a8 (nI v).toNatClampNeg)) = .int (a8 (nI v).toNatClampNeg) ∧ (post (a8 (nI v).toNatClampNeg) (nI n, fc, tk, pv, a1, a2, a3, a4, a5, a6, a7, a8, a9))) := by
    intro g w a7 a8 a9 hw hS hc
    rw [nI_clamp (show v < 2 ^ 31 by omega)]
    refine ⟨pk_in v 7 (by omega), ?_, H w a7 a8 a9 hS (fun y hy h1 => ?_)⟩
    · rcases hS.1 v hv with z | z <;> rw [z] <;> rfl
    · obtain ⟨q, hq, e⟩ := hS.2.2.2.2.2.1 y hy h1
      exact hc q (by omega) y hy e
  intro d
  induction d with
  | zero =>
    intro g w a7 a8 a9 hg hS hc
    have hw : w ≤ n := by
      have t := hS.2.1
      have t2 := fp_cn_le a8 n
      omega
    exact pk_le w g (fun z => fin g w a7 a8 a9 z hS hc) (fun z => absurd z (by omega))
  | succ d ih =>
    intro g w a7 a8 a9 hg hS hc
    have hw : w ≤ n := by
      have t := hS.2.1
      have t2 := fp_cn_le a8 n
      omega
    refine pk_le w g (fun z => fin g w a7 a8 a9 z hS hc) (fun z => ?_)
    refine pk_le 7 g (fun z => absurd z (by omega)) (fun _ => ⟨pk_in g 7 (by omega), ?_⟩)
    obtain ⟨x, hx, e9, e8⟩ := hS.2.2.2.2.1 g z
    rw [nI_clamp (show g < 2 ^ 31 by omega)]
    refine nm_r e9 ⟨18, ?_⟩
    refine fp_80 (u := u) (post := post) hn hG hK hU hx (fun w' a7' a8' a9' h => ?_) 17 0 w a7 a8 a9 rfl ⟨hS, z, e9, e8, hc, fun e he => absurd he (Nat.not_lt_zero _)⟩
    obtain ⟨s, c1, c2, c3, c4, c5⟩ := h
    refine ih (g + 1) w' a7' a8' a9' (by omega) s (fun q hq y hy hqy => ?_)
    by_cases t : q = g
    · subst t
      have exy : x = y := (nI_eq (by omega) (by omega)).mp (c2.symm.trans hqy)
      subst exy
      exact c5
    · exact c4 q (by omega) y hy hqy
theorem fp_search {post : Int32 → St2 → Prop} {n f u v : Nat} {T : Nat → Bool} {lo hi : Nat → Nat} {fc tk pv : Int32} {a1 a2 a3 a4 a5 a6 a7 a8 a9 : Nat → Int32}
    (hn : n ≤ 7) (hG : fp_G n T lo hi a1 a2) (hK : fp_K tk T) (hU : fp_U T lo hi a3 f) (hv : v < n) (huv : u ≤ v)
    (H1 : ∀ a7 a8 a9, (∀ y, u < y → y ≤ v → ∃ e, e < 17 ∧ T e = true ∧ a3 e = nI f ∧ lo e = y - 1 ∧ a7 y = nI e) → a7 u = -1 → post 1 (nI n, fc, tk, pv, a1, a2, a3, a4, a5, a6, a7, a8, a9))
    (H0 : ∀ a7 a8 a9, ¬ (∀ i, u ≤ i → i < v → fp_B T lo a3 f i) → post 0 (nI n, fc, tk, pv, a1, a2, a3, a4, a5, a6, a7, a8, a9)) :
    wpX_search post (nI n, fc, tk, pv, a1, a2, a3, a4, a5, a6, a7, a8, a9) (nI f) (nI u) (nI v) := by
  have hu : u < n := by omega
  have key : ∀ (d i : Nat) (a7 a8 : Nat → Int32), i + d = n → (∀ j, j < i → a7 j = -1 ∧ a8 j = 0) → wX_search_3 post (nI f) (nI u) (nI v) (nI n) fc tk pv (d + 1) (nI i) a1 a2 a3 a4 a5 a6 a7 a8 a9 := by
    intro d
    induction d with
    | zero =>
      intro i a7 a8 hi h
      have hi' : i = n := by omega
      subst hi'
      refine pk_le i i (fun _ => ⟨pk_in u 7 (by omega), ?_⟩) (fun z => absurd z (by omega))
      rw [nI_clamp (show u < 2 ^ 31 by omega)]
      refine nm_e (nm_e ⟨8, ?_⟩)
      have one : ∀ y, y < i → upd a8 u 1 y = 1 → y = u := by
        intro y hy t
        by_cases z : y = u
        · exact z
        · rw [pk_un z, (h y hy).2] at t
          exact absurd t fp_01
      refine fp_54 (u := u) (post := post) hn hG hK hU hv (fun w b7 b8 b9 hS hC => ?_) 7 0 1 a7 (upd a8 u 1) (upd a9 0 (nI u)) rfl ⟨?_, ?_, pk_us, (h u hu).1, ?_, ?_, ?_, ?_⟩ (fun q hq => absurd hq (Nat.not_lt_zero _))
      · obtain ⟨s1, s2, s3, s4, s5, s6, s7, s8⟩ := hS
        rcases s1 v hv with z | z
        · rw [z]
          refine H0 b7 b8 b9 (fun hB => ?_)
          have run : ∀ d, u + d ≤ v → b8 (u + d) = 1 := by
            intro d
            induction d with
            | zero => intro _; exact s3
            | succ d ih =>
              intro hd
              obtain ⟨e, q1, q2, q3, q4⟩ := hB (u + d) (by omega) (by omega)
              exact hC (u + d) (by omega) (ih (by omega)) e q1 q2 q3 q4
          have t := run (v - u) (by omega)
          rw [show u + (v - u) = v by omega, z] at t
          exact fp_01 t
        · rw [z]
          have run : ∀ d, u + d ≤ v → b8 (v - d) = 1 := by
            intro d
            induction d with
            | zero => intro _; exact z
            | succ d ih =>
              intro hd
              have t := (s7 (v - d) (by omega) (by omega) (ih (by omega))).1
              rw [show v - d - 1 = v - (d + 1) by omega] at t
              exact t
          refine H1 b7 b8 b9 (fun y y1 y2 => ?_) s4
          have t := run (v - y) (by omega)
          rw [show v - (v - y) = y by omega] at t
          exact (s7 y (by omega) y1 t).2
      · intro j hj
        by_cases z : j = u
        · rw [z, pk_us]
          exact Or.inr rfl
        · rw [pk_un z]
          exact Or.inl (h j hj).2
      · rw [fp_cn_put a8 i u hu (h u hu).2, fp_cn_0 a8 i (fun j hj => (h j hj).2), Nat.zero_add]
      · intro q hq
        have hq0 : q = 0 := by omega
        subst hq0
        exact ⟨u, hu, pk_us, pk_us⟩
      · intro y hy t
        exact ⟨0, by omega, by rw [one y hy t, pk_us]⟩
      · intro y hy hy2 t
        have := one y hy t
        omega
      · intro y hy t
        have := one y (by omega) t
        omega
    | succ d ih =>
      intro i a7 a8 hi h
      refine pk_le n i (fun z => absurd z (by omega)) (fun _ => ⟨pk_in i 7 (by omega), ?_⟩)
      rw [nI_clamp (show i < 2 ^ 31 by omega)]
      refine nm_e ⟨pk_in i 7 (by omega), nm_e (nm_r (nI_1 i) (ih (i + 1) _ _ (by omega) (fun j hj => ?_)))⟩
      by_cases z : j = i
      · rw [z, pk_us, pk_us]
        exact ⟨rfl, rfl⟩
      · rw [pk_un z, pk_un z]
        exact h j (by omega)
  exact ⟨n + 1, key n 0 a7 a8 (by omega) (fun j hj => absurd hj (Nat.not_lt_zero _))⟩
end
section
/-- what is reached: the queue holds it, s ahead of all -/
def fp_R (Z : Nat → Prop) (s p : Nat) (a4 a5 a6 : Nat → Int32) : Prop :=
  p = fp_cn a4 17 ∧ ¬ a4 s = 0 ∧ a5 s = -1 ∧ 0 < p ∧ a6 0 = nI s ∧ ∀ q, q < p → ∃ z, z < 17 ∧ Z z ∧ a6 q = nI z
theorem fp_R_put {Z : Nat → Prop} {s p z : Nat} {a4 a5 a6 : Nat → Int32} {x : Int32} (h : fp_R Z s p a4 a5 a6) (hz : z < 17) (h4 : a4 z = 0) (hZ : Z z) : p < 17 ∧ fp_R Z s (p + 1) (upd a4 z 1) (upd a5 z x) (upd a6 p (nI z)) := by
  obtain ⟨r1, r2, r3, r4, r5, r6⟩ := h
  have hw : fp_cn (upd a4 z 1) 17 = p + 1 := by rw [fp_cn_put a4 17 z hz h4, r1]
  have hp : p < 17 := by
    have := fp_cn_le (upd a4 z 1) 17
    omega
  have ns : s ≠ z := fun t => r2 (by rw [t]; exact h4)
  refine ⟨hp, hw.symm, by rw [pk_un ns]; exact r2, by rw [pk_un ns]; exact r3, by omega, by rw [pk_un (by omega)]; exact r5, ?_⟩
  intro q hq
  by_cases t : q = p
  · exact ⟨z, hz, hZ, by rw [t, pk_us]⟩
  · rw [pk_un t]
    exact r6 q (by omega)
theorem fp_reach {post : St2 → Prop} {p z : Nat} {fn fc tk x : Int32} {a1 a2 a3 a4 a5 a6 a7 a8 a9 : Nat → Int32} (hz : z < 17) (hp : p < 17)
    (H : post (fn, fc, tk, nI (p + 1), a1, a2, a3, upd a4 z 1, upd a5 z x, upd a6 p (nI z), a7, a8, a9)) :
    wpX_reach post (fn, fc, tk, nI p, a1, a2, a3, a4, a5, a6, a7, a8, a9) (nI z) x := by
  unfold wpX_reach
  dsimp only
  rw [nI_clamp (show z < 2 ^ 31 by omega), nI_clamp (show p < 2 ^ 31 by omega)]
  exact ⟨pk_in z 17 hz, nm_e ⟨pk_in z 17 hz, nm_e ⟨pk_in p 17 hp, nm_e (nm_r (nI_1 p) H)⟩⟩⟩
theorem fp_way {post : St2 → Prop} {n f u v s e : Nat} {T : Nat → Bool} {lo hi : Nat → Nat} {Z : Nat → Prop} {fc tk : Int32} {a1 a2 a3 a4 a5 a6 a7 a8 a9 : Nat → Int32} {p : Nat}
    (hn : n ≤ 7) (hG : fp_G n T lo hi a1 a2) (he : e < 17) (h2 : a2 e = nI v) (hv : v < n) (huv : u ≤ v)
    (hvia : ∀ y, u < y → y ≤ v → ∃ e, e < 17 ∧ T e = true ∧ a3 e = nI f ∧ lo e = y - 1 ∧ a7 y = nI e) (hu : a7 u = -1)
    (hZ : ∀ z, z < 17 → T z = true → a3 z = nI f → u ≤ lo z → lo z < v → Z z) (hR : fp_R Z s p a4 a5 a6)
    (H : ∀ (p : Nat) (a4 a5 a6 : Nat → Int32), fp_R Z s p a4 a5 a6 → post (nI n, fc, tk, nI p, a1, a2, a3, a4, a5, a6, a7, a8, a9)) :
    wpX_reachWay post (nI n, fc, tk, nI p, a1, a2, a3, a4, a5, a6, a7, a8, a9) (nI e) := by
  have key : ∀ (d i y p : Nat) (a4 a5 a6 : Nat → Int32), u + d = y → y + i = v → fp_R Z s p a4 a5 a6 → wX_reachWay_9 post (nI e) (d + 1) (nI y) (nI i) (nI n) fc tk (nI p) a1 a2 a3 a4 a5 a6 a7 a8 a9 := by
    intro d
    induction d with
    | zero =>
      intro i y p a4 a5 a6 hy hi hR
      have hy' : y = u := by omega
      subst hy'
      refine pk_le 7 i (fun _ => H p a4 a5 a6 hR) (fun _ => ⟨pk_in y 7 (by omega), ?_⟩)
      rw [nI_clamp (show y < 2 ^ 31 by omega), hu]
      exact br_t fp_m1lt (H p a4 a5 a6 hR)
    | succ d ih =>
      intro i y p a4 a5 a6 hy hi hR
      obtain ⟨z, hz, hT, h3, hl, h7⟩ := hvia y (by omega) (by omega)
      obtain ⟨g1, g2, g3, g4⟩ := hG z hz hT
      have nx : ∀ (p : Nat) (a4 a5 a6 : Nat → Int32), fp_R Z s p a4 a5 a6 → wX_reachWay_49 post (wX_reachWay_9 post (nI e) (d + 1)) (nI e) (nI y) (nI i) (nI z) (nI n) fc tk (nI p) a1 a2 a3 a4 a5 a6 a7 a8 a9 := by
        intro p a4 a5 a6 hR
        unfold wX_reachWay_49
        rw [nI_clamp (show z < 2 ^ 31 by omega), g1]
        refine ⟨pk_in z 17 hz, pk_eq (lo z) y (fun t => absurd t (by omega)) (fun _ => ⟨pk_in z 17 hz, ?_⟩)⟩
        exact nm_r (congrArg nI hl) (nm_r (nI_1 i) (ih (i + 1) (y - 1) p a4 a5 a6 (by omega) (by omega) hR))
      refine pk_le 7 i (fun _ => H p a4 a5 a6 hR) (fun _ => ⟨pk_in y 7 (by omega), ?_⟩)
      rw [nI_clamp (show y < 2 ^ 31 by omega), h7]
      refine br_f (nI_pos (by omega)) ⟨pk_in y 7 (by omega), nm_e ⟨pk_in z 17 hz, ?_⟩⟩
      rw [nI_clamp (show z < 2 ^ 31 by omega)]
      by_cases h4 : a4 z = 0
      · have hput := fp_R_put (x := nI e) hR hz h4 (hZ z hz hT h3 (by omega) (by omega))
        exact br_t h4 (fp_reach hz hput.1 (nx (p + 1) _ _ _ hput.2))
      · exact br_f h4 (nx p a4 a5 a6 hR)
  unfold wpX_reachWay
  dsimp only
  rw [nI_clamp (show e < 2 ^ 31 by omega), h2]
  exact ⟨pk_in e 17 he, nm_e ⟨v - u + 1, key (v - u) 0 v p a4 a5 a6 (by omega) (by omega) hR⟩⟩
theorem fp_shift {post : St2 → Prop} {s : Nat} {fn fc tk pv x : Int32} {a1 a2 a3 a4 a5 a6 a7 a8 a9 : Nat → Int32} (hs : s < 17) (h5 : a5 s = -1)
    (H : post (fn, fc, tk, pv, a1, a2, upd a3 s x, a4, a5, a6, a7, a8, a9)) :
    wpX_shift post (fn, fc, tk, pv, a1, a2, a3, a4, a5, a6, a7, a8, a9) (nI s) x := by
  have k1 : wX_shift_8 post fn fc tk pv 1 (-1) (a3 s) (nI 1) a1 a2 (upd a3 s x) a4 a5 a6 a7 a8 a9 := pk_lt 16 1 (fun t => absurd t (by omega)) (fun _ => br_t fp_m1lt H)
  refine ⟨2, pk_lt 16 0 (fun t => absurd t (by omega)) (fun _ => br_f (nI_pos (by omega)) ⟨pk_in s 17 hs, ?_⟩)⟩
  rw [nI_clamp (show s < 2 ^ 31 by omega)]
  exact nm_e ⟨pk_in s 17 hs, nm_e ⟨pk_in s 17 hs, nm_r h5 (nm_r (nI_1 0) k1)⟩⟩
/-- the ends of edge z are joined in forest f -/
def fp_J (T : Nat → Bool) (lo hi : Nat → Nat) (a3 : Nat → Int32) (f z : Nat) : Prop := ∀ i, lo z ≤ i → i < hi z → fp_B T lo a3 f i
theorem fp_59 {post : Int32 → St2 → Prop} {J34 : Int32 → Int32 → Int32 → Int32 → Int32 → (Nat → Int32) → (Nat → Int32) → (Nat → Int32) → (Nat → Int32) → (Nat → Int32) → (Nat → Int32) → (Nat → Int32) → (Nat → Int32) → (Nat → Int32) → Prop} {n k g z s : Nat} {T : Nat → Bool} {lo hi : Nat → Nat} {Z : Nat → Prop} {fc tk : Int32} {a1 a2 a3 : Nat → Int32}
    (hn : n ≤ 7) (hG : fp_G n T lo hi a1 a2) (hK : fp_K tk T) (hU : ∀ f, f < k → fp_U T lo hi a3 f) (hk : k ≤ 16) (hz : z < 17) (hT : T z = true)
    (hZ : ∀ f, f < k → ∀ z', z' < 17 → T z' = true → a3 z' = nI f → lo z ≤ lo z' → lo z' < hi z → Z z')
    (HA : ∀ f, f < k → (∀ f', f' < f → a3 z = nI f' ∨ fp_J T lo hi a3 f' z) → ¬ fp_J T lo hi a3 f z → z = s ∧ ∀ (p : Nat) (a4 a5 a6 a7 a8 a9 : Nat → Int32), post 1 (nI n, fc, tk, nI p, a1, a2, upd a3 z (nI f), a4, a5, a6, a7, a8, a9))
    (HB : ∀ (p : Nat) (a4 a5 a6 a7 a8 a9 : Nat → Int32), (∀ f, f < k → a3 z = nI f ∨ fp_J T lo hi a3 f z) → fp_R Z s p a4 a5 a6 → J34 (nI (g + 1)) (nI n) fc tk (nI p) a1 a2 a3 a4 a5 a6 a7 a8 a9) :
    ∀ (d f p : Nat) (a4 a5 a6 a7 a8 a9 : Nat → Int32), f + d = k → (∀ f', f' < f → a3 z = nI f' ∨ fp_J T lo hi a3 f' z) → fp_R Z s p a4 a5 a6 → wX_bringIn_59 post J34 (nI k) (nI g) (nI z) (d + 1) (nI f) (nI n) fc tk (nI p) a1 a2 a3 a4 a5 a6 a7 a8 a9 := by
  obtain ⟨g1, g2, g3, g4⟩ := hG z hz hT
  intro d
  induction d with
  | zero =>
    intro f p a4 a5 a6 a7 a8 a9 hf hJ hR
    exact pk_le k f (fun _ => nm_r (nI_1 g) (HB p a4 a5 a6 a7 a8 a9 (fun f' h' => hJ f' (by omega)) hR)) (fun t => absurd t (by omega))
  | succ d ih =>
    intro f p a4 a5 a6 a7 a8 a9 hf hJ hR
    have up : (a3 z = nI f ∨ fp_J T lo hi a3 f z) → ∀ f', f' < f + 1 → a3 z = nI f' ∨ fp_J T lo hi a3 f' z := by
      intro h f' h'
      by_cases t : f' = f
      · rw [t]
        exact h
      · exact hJ f' (by omega)
    refine pk_le k f (fun t => absurd t (by omega)) (fun _ => ⟨pk_in z 17 hz, ?_⟩)
    rw [nI_clamp (show z < 2 ^ 31 by omega)]
    by_cases h3 : a3 z = nI f
    · exact br_t h3 (nm_r (nI_1 f) (ih (f + 1) p a4 a5 a6 a7 a8 a9 (by omega) (up (Or.inl h3)) hR))
    · refine br_f h3 ⟨pk_in z 17 hz, pk_in z 17 hz, ?_⟩
      rw [g1, g2]
      refine fp_search hn hG hK (hU f (by omega)) g4 (Nat.le_of_lt g3) (fun b7 b8 b9 hvia hu => ?_) (fun b7 b8 b9 hB => ?_)
      · have hJf : fp_J T lo hi a3 f z := by
          intro i i1 i2
          obtain ⟨e, q1, q2, q3, q4, q5⟩ := hvia (i + 1) (by omega) (by omega)
          exact ⟨e, q1, q2, q3, by omega⟩
        refine br_f fp_10 (fp_way hn hG hz g2 g4 (Nat.le_of_lt g3) hvia hu (hZ f (by omega)) hR (fun p' b4 b5 b6 hR' => ?_))
        exact nm_r (nI_1 f) (ih (f + 1) p' b4 b5 b6 b7 b8 b9 (by omega) (up (Or.inr hJf)) hR')
      · obtain ⟨hs, hp⟩ := HA f (by omega) hJ hB
        exact br_t rfl (fp_shift hz (by rw [hs]; exact hR.2.2.1) (hp p a4 a5 a6 b7 b8 b9))
theorem fp_bring {post : Int32 → St2 → Prop} {n k s : Nat} {T : Nat → Bool} {lo hi : Nat → Nat} {fc tk pv : Int32} {a1 a2 a3 a4 a5 a6 a7 a8 a9 : Nat → Int32}
    (hn : n ≤ 7) (hG : fp_G n T lo hi a1 a2) (hK : fp_K tk T) (hU : ∀ f, f < k → fp_U T lo hi a3 f) (hk : k ≤ 16) (hs : s < 17) (hT : T s = true) (h3 : a3 s = -1)
    (HA : ∀ f, f < k → (∀ f', f' < f → fp_J T lo hi a3 f' s) → ¬ fp_J T lo hi a3 f s → ∀ (p : Nat) (a4 a5 a6 a7 a8 a9 : Nat → Int32), post 1 (nI n, fc, tk, nI p, a1, a2, upd a3 s (nI f), a4, a5, a6, a7, a8, a9))
    (HB : (∀ f, f < k → fp_J T lo hi a3 f s) → ∀ (p : Nat) (a4 a5 a6 a7 a8 a9 : Nat → Int32), post 0 (nI n, fc, tk, nI p, a1, a2, a3, a4, a5, a6, a7, a8, a9)) :
    wpX_bringIn post (nI n, fc, tk, pv, a1, a2, a3, a4, a5, a6, a7, a8, a9) (nI s) (nI k) := by
  have nf : ∀ f, f < k → ¬ a3 s = nI f := fun f hf t => fp_m1 (f := f) (by omega) (h3.symm.trans t)
  have fromStart : ∀ a4 : Nat → Int32, (∀ j, j < 17 → a4 j = 0) → ∃ m, wX_bringIn_34 post (nI k) m 0 (nI n) fc tk (nI 1) a1 a2 a3 (upd a4 s 1) (upd a5 s (-1)) (upd a6 0 (nI s)) a7 a8 a9 := by
    intro a4 h4
    have hR : ∀ Z : Nat → Prop, Z s → fp_R Z s 1 (upd a4 s 1) (upd a5 s (-1)) (upd a6 0 (nI s)) := by
      intro Z hZ
      refine ⟨?_, by rw [pk_us]; exact fp_10, pk_us, by omega, pk_us, fun q hq => ⟨s, hs, hZ, ?_⟩⟩
      · rw [fp_cn_put a4 17 s hs (h4 s hs), fp_cn_0 a4 17 h4, Nat.zero_add]
      · have hq0 : q = 0 := by omega
        rw [hq0, pk_us]
    by_cases hJ : ∀ f, f < k → fp_J T lo hi a3 f s
    · have key : ∀ (d g p : Nat) (a4 a5 a6 a7 a8 a9 : Nat → Int32), g + d = 17 → fp_R (fun z => T z = true ∧ ∀ f, f < k → fp_J T lo hi a3 f z) s p a4 a5 a6 → wX_bringIn_34 post (nI k) (d + 1) (nI g) (nI n) fc tk (nI p) a1 a2 a3 a4 a5 a6 a7 a8 a9 := by
        intro d
        induction d with
        | zero =>
          intro g p a4 a5 a6 a7 a8 a9 hg hR
          have hp17 : p ≤ 17 := by
            have t := hR.1
            have t2 := fp_cn_le a4 17
            omega
          exact pk_le p g (fun _ => HB hJ p a4 a5 a6 a7 a8 a9) (fun t => absurd t (by omega))
        | succ d ih =>
          intro g p a4 a5 a6 a7 a8 a9 hg hR
          have hp17 : p ≤ 17 := by
            have t := hR.1
            have t2 := fp_cn_le a4 17
            omega
          refine pk_le p g (fun _ => HB hJ p a4 a5 a6 a7 a8 a9) (fun hgp => ?_)
          refine pk_lt 16 g (fun _ => HB hJ p a4 a5 a6 a7 a8 a9) (fun _ => ⟨pk_in g 17 (by omega), ?_⟩)
          obtain ⟨z, hz, ⟨hTz, hJz⟩, e6⟩ := hR.2.2.2.2.2 g hgp
          rw [nI_clamp (show g < 2 ^ 31 by omega)]
          refine nm_r e6 ⟨k + 1, ?_⟩
          refine fp_59 (s := s) (Z := fun z => T z = true ∧ ∀ f, f < k → fp_J T lo hi a3 f z) hn hG hK hU hk hz hTz (fun f hf z' q1 q2 q3 q4 q5 => ⟨q2, fun f' hf' i i1 i2 => ?_⟩) (fun f hf _ hn' => absurd (hJz f hf) hn') (fun p' b4 b5 b6 b7 b8 b9 _ hR' => ih (g + 1) p' b4 b5 b6 b7 b8 b9 (by omega) hR') k 0 p a4 a5 a6 a7 a8 a9 (by omega) (fun f' h' => absurd h' (Nat.not_lt_zero _)) hR
          have hi' := hU f hf z' q1 q2 q3
          exact hJz f' hf' i (by omega) (by omega)
      exact ⟨18, key 17 0 1 _ _ _ a7 a8 a9 rfl (hR _ ⟨hT, hJ⟩)⟩
    · refine ⟨1, pk_le 1 0 (fun t => absurd t (by omega)) (fun _ => pk_lt 16 0 (fun t => absurd t (by omega)) (fun _ => ⟨pk_in 0 17 (by omega), nm_r (e' := nI s) (by first | exact pk_us | (rw [sb_cl0]; exact pk_us)) ⟨k + 1, ?_⟩⟩))⟩
      refine fp_59 (g := 0) (s := s) (Z := fun _ => True) hn hG hK hU hk hs hT (fun _ _ _ _ _ _ _ _ => trivial) (fun f hf hb hc => ⟨rfl, HA f hf (fun f' h' => (hb f' h').elim (fun t => absurd t (nf f' (by omega))) id) hc⟩) (fun p' b4 b5 b6 b7 b8 b9 hall _ => absurd (fun f hf => (hall f hf).elim (fun t => absurd t (nf f hf)) id) hJ) k 0 1 _ _ _ a7 a8 a9 (by omega) (fun f' h' => absurd h' (Nat.not_lt_zero _)) (hR _ trivial)
  have key : ∀ (d e : Nat) (a4 : Nat → Int32), e + d = 17 → (∀ j, j < e → a4 j = 0) → wX_bringIn_2 post (nI s) (nI k) (nI n) fc tk pv (d + 1) (nI e) a1 a2 a3 a4 a5 a6 a7 a8 a9 := by
    intro d
    induction d with
    | zero =>
      intro e a4 he h
      have he' : e = 17 := by omega
      subst he'
      refine pk_lt 16 17 (fun _ => ?_) (fun t => absurd t (by omega))
      exact fp_reach (p := 0) hs (by omega) (fromStart a4 h)
    | succ d ih =>
      intro e a4 he h
      refine pk_lt 16 e (fun t => absurd t (by omega)) (fun _ => ⟨pk_in e 17 (by omega), ?_⟩)
      rw [nI_clamp (show e < 2 ^ 31 by omega)]
      refine nm_e (nm_r (nI_1 e) (ih (e + 1) _ (by omega) (fun j hj => ?_)))
      by_cases t : j = e
      · rw [t, pk_us]
      · rw [pk_un t]
        exact h j (by omega)
  exact ⟨18, key 17 0 a4 rfl (fun j hj => absurd hj (Nat.not_lt_zero _))⟩
end
section
/-- what k forests hold of the set T: of each bundle at most k, and edge 16 if there is room between u and v -/
def fp_hd (b : Nat → Nat) (T : Nat → Bool) (k u v : Nat) : Nat := fp_sm (fun i => min (fp_ct b T 16 i) k) + if T 16 = true ∧ fp_op (fp_ct b T 16) k u v = true then 1 else 0
/-- the homes when the edges below e have been brought in -/
def fp_H (b : Nat → Nat) (T : Nat → Bool) (k e : Nat) (a3 : Nat → Int32) : Prop := ∀ e', e' < 17 → a3 e' = if e' < e ∧ T e' = true ∧ fp_ct b T e' (b e') < k then nI (fp_ct b T e' (b e')) else -1
def fp_lo (b : Nat → Nat) (u e : Nat) : Nat := if e = 16 then u else b e
def fp_hi (b : Nat → Nat) (v e : Nat) : Nat := if e = 16 then v else b e + 1
theorem fp_lo16 (b : Nat → Nat) (u : Nat) : fp_lo b u 16 = u := if_pos rfl
theorem fp_hi16 (b : Nat → Nat) (v : Nat) : fp_hi b v 16 = v := if_pos rfl
theorem fp_loN {b : Nat → Nat} {u e : Nat} (h : e < 16) : fp_lo b u e = b e := if_neg (by omega)
theorem fp_hiN {b : Nat → Nat} {v e : Nat} (h : e < 16) : fp_hi b v e = b e + 1 := if_neg (by omega)
theorem fp_H_in {b : Nat → Nat} {T : Nat → Bool} {k e e' f : Nat} {a3 : Nat → Int32} (hH : fp_H b T k e a3) (he' : e' < 17) (hf : f < 2 ^ 31) (h : a3 e' = nI f) (hk : k ≤ 16) : e' < e ∧ fp_ct b T e' (b e') = f := by
  rw [hH e' he'] at h
  by_cases c : e' < e ∧ T e' = true ∧ fp_ct b T e' (b e') < k
  · rw [if_pos c] at h
    have hc := c.2.2
    exact ⟨c.1, (nI_eq (by omega) hf).mp h⟩
  · rw [if_neg c] at h
    exact absurd h (fp_m1 hf)
theorem fp_H_B {b : Nat → Nat} {T : Nat → Bool} {k e f u i : Nat} {a3 : Nat → Int32} (hH : fp_H b T k e a3) (he : e ≤ 16) (hk : k ≤ 16) (hf : f < k) : fp_B T (fp_lo b u) a3 f i ↔ f < fp_ct b T e i := by
  constructor
  · rintro ⟨e', q1, q2, q3, q4⟩
    obtain ⟨c1, c2⟩ := fp_H_in hH q1 (by omega) q3 hk
    rw [fp_loN (by omega)] at q4
    have t := fp_ct_lt c1 q2 q4
    rw [q4] at c2
    omega
  · intro h
    obtain ⟨e', q1, q2, q3, q4⟩ := fp_ct_has e h
    refine ⟨e', by omega, q2, ?_, by rw [fp_loN (by omega)]; exact q3⟩
    rw [hH e' (by omega), q3, q4, if_pos ⟨q1, q2, hf⟩]
theorem fp_H_U {b : Nat → Nat} {T : Nat → Bool} {k e u v : Nat} {a3 : Nat → Int32} (hH : fp_H b T k e a3) (he : e ≤ 16) (hk : k ≤ 16) : ∀ f, f < k → fp_U T (fp_lo b u) (fp_hi b v) a3 f := by
  intro f hf e' q1 q2 q3
  obtain ⟨c1, c2⟩ := fp_H_in hH q1 (by omega) q3 hk
  rw [fp_loN (by omega), fp_hiN (by omega)]
theorem fp_H_J {b : Nat → Nat} {T : Nat → Bool} {k e f u v : Nat} {a3 : Nat → Int32} (hH : fp_H b T k e a3) (he : e < 16) (hk : k ≤ 16) (hf : f < k) : fp_J T (fp_lo b u) (fp_hi b v) a3 f e ↔ f < fp_ct b T e (b e) := by
  unfold fp_J
  rw [fp_loN he, fp_hiN he]
  constructor
  · intro h
    exact (fp_H_B hH (by omega) hk hf).mp (h (b e) (by omega) (by omega))
  · intro h i i1 i2
    have hi : i = b e := by omega
    rw [hi]
    exact (fp_H_B hH (by omega) hk hf).mpr h
theorem fp_H_off {b : Nat → Nat} {T : Nat → Bool} {k e : Nat} {a3 : Nat → Int32} (hH : fp_H b T k e a3) (he : e < 17) : a3 e = -1 := by
  rw [hH e he, if_neg (fun t => absurd t.1 (Nat.lt_irrefl _))]
theorem fp_H_skip {b : Nat → Nat} {T : Nat → Bool} {k e : Nat} {a3 : Nat → Int32} (hH : fp_H b T k e a3) (h : ¬ (T e = true ∧ fp_ct b T e (b e) < k)) : fp_H b T k (e + 1) a3 := by
  intro e' he'
  rw [hH e' he']
  by_cases z : e' = e
  · subst z
    rw [if_neg (fun t => absurd t.1 (Nat.lt_irrefl _)), if_neg (fun t => h t.2)]
  · exact fp_ifc ⟨fun t => ⟨by omega, t.2⟩, fun t => ⟨by omega, t.2⟩⟩
theorem fp_H_put {b : Nat → Nat} {T : Nat → Bool} {k e : Nat} {a3 : Nat → Int32} (hH : fp_H b T k e a3) (hT : T e = true) (h : fp_ct b T e (b e) < k) : fp_H b T k (e + 1) (upd a3 e (nI (fp_ct b T e (b e)))) := by
  intro e' he'
  by_cases z : e' = e
  · subst z
    rw [pk_us, if_pos ⟨Nat.lt_succ_self _, hT, h⟩]
  · rw [pk_un z, hH e' he']
    exact fp_ifc ⟨fun t => ⟨by omega, t.2⟩, fun t => ⟨by omega, t.2⟩⟩
theorem fp_mn_put {b : Nat → Nat} {T : Nat → Bool} {k e : Nat} (hT : T e = true) (hb : b e < 5) (h : fp_ct b T e (b e) < k) : fp_sm (fun i => min (fp_ct b T (e + 1) i) k) = fp_sm (fun i => min (fp_ct b T e i) k) + 1 := by
  refine fp_sm_up hb (fun i hi => ?_) ?_
  · show min (fp_ct b T (e + 1) i) k = min (fp_ct b T e i) k
    rw [fp_ct_n (fun z => hi z.2.symm)]
  · show min (fp_ct b T (e + 1) (b e)) k = min (fp_ct b T e (b e)) k + 1
    rw [fp_ct_y hT rfl]
    omega
theorem fp_mn_skip {b : Nat → Nat} {T : Nat → Bool} {k e : Nat} (h : ¬ (T e = true ∧ fp_ct b T e (b e) < k)) : fp_sm (fun i => min (fp_ct b T (e + 1) i) k) = fp_sm (fun i => min (fp_ct b T e i) k) := by
  refine fp_sm_eq (fun i hi => ?_)
  show min (fp_ct b T (e + 1) i) k = min (fp_ct b T e i) k
  by_cases c : T e = true ∧ b e = i
  · have hc : ¬ fp_ct b T e i < k := fun t => h ⟨c.1, by rw [c.2]; exact t⟩
    rw [fp_ct_y c.1 c.2]
    omega
  · rw [fp_ct_n c]
theorem fp_hd_all {b : Nat → Nat} {T : Nat → Bool} {k u v : Nat} (h : fp_tn T 17 ≤ k) (hb : ∀ e, e < 16 → T e = true → b e < 5) (huv : T 16 = true → u < v ∧ v ≤ 5) : fp_hd b T k u v = fp_tn T 17 := by
  have e1 : fp_tn T 17 = fp_tn T 16 + if T 16 = true then 1 else 0 := fp_tn_s T 16
  have e2 : fp_tn T 16 = fp_sm (fp_ct b T 16) := fp_tn_sm 16 hb
  have e3 : fp_sm (fp_ct b T 16) ≤ k := by
    rw [← e2]
    omega
  have e4 : fp_sm (fun i => min (fp_ct b T 16 i) k) = fp_sm (fp_ct b T 16) := fp_sm_eq (fun i hi => by
    have t := fp_sm_ge (f := fp_ct b T 16) hi
    exact Nat.min_eq_left (by omega))
  unfold fp_hd
  rw [e1, e2, e4]
  by_cases hT : T 16 = true
  · rw [if_pos hT, e2] at e1
    have t := fp_sm_ge (f := fp_ct b T 16) (b := u) (by have := huv hT; omega)
    rw [if_pos hT, if_pos ⟨hT, (fp_op_iff v).mpr ⟨u, Nat.le_refl _, (huv hT).1, by omega⟩⟩]
  · rw [if_neg hT, if_neg (fun t => hT t.1)]
theorem fp_53 {post : Int32 → St2 → Prop} {n k u v : Nat} {b : Nat → Nat} {T : Nat → Bool} {fc set : Int32} {a1 a2 : Nat → Int32}
    (hn : n ≤ 6) (hk : k ≤ 16) (hG : fp_G n T (fp_lo b u) (fp_hi b v) a1 a2) (hK : fp_K set T)
    (H : ∀ (p : Int32) (a3 a4 a5 a6 a7 a8 a9 : Nat → Int32), post (nI (fp_hd b T k u v)) (nI n, fc, set, p, a1, a2, a3, a4, a5, a6, a7, a8, a9)) :
    ∀ (d e : Nat) (p : Int32) (a3 a4 a5 a6 a7 a8 a9 : Nat → Int32), e + d = 16 → fp_H b T k e a3 → wX_held_53 post set (nI k) (d + 2) (nI (fp_sm (fun i => min (fp_ct b T e i) k))) (nI e) (nI n) fc set p a1 a2 a3 a4 a5 a6 a7 a8 a9 := by
  have fin : ∀ (x : Nat) (p : Int32) (a3 a4 a5 a6 a7 a8 a9 : Nat → Int32), x = fp_hd b T k u v → wX_held_53 post set (nI k) 1 (nI x) (nI 17) (nI n) fc set p a1 a2 a3 a4 a5 a6 a7 a8 a9 := by
    intro x p a3 a4 a5 a6 a7 a8 a9 hx
    rw [hx]
    exact pk_lt 16 17 (fun _ => H p a3 a4 a5 a6 a7 a8 a9) (fun t => absurd t (by omega))
  intro d
  induction d with
  | zero =>
    intro e p a3 a4 a5 a6 a7 a8 a9 he hH
    have he' : e = 16 := by omega
    subst he'
    refine pk_lt 16 16 (fun t => absurd t (by omega)) (fun _ => ?_)
    rw [hK 16 (by omega)]
    by_cases hT : T 16 = true
    · rw [if_pos hT]
      refine br_t rfl (fp_bring (by omega) hG hK (fp_H_U hH (by omega) hk) hk (by omega) hT (fp_H_off hH (by omega)) (fun f hf hb hc p' b4 b5 b6 b7 b8 b9 => br_f fp_10 (nm_r (nI_1 _) (nm_r (nI_1 16) (fin _ _ _ _ _ _ _ _ _ ?_)))) (fun hall p' b4 b5 b6 b7 b8 b9 => br_t rfl (nm_r (nI_1 16) (fin _ _ _ _ _ _ _ _ _ ?_))))
      · have hop : fp_op (fp_ct b T 16) k u v = true := by
          by_cases t : fp_op (fp_ct b T 16) k u v = true
          · exact t
          · refine absurd (fun i i1 i2 => ?_) hc
            rw [fp_lo16] at i1
            rw [fp_hi16] at i2
            have t2 : ¬ fp_ct b T 16 i < k := fun t3 => t ((fp_op_iff v).mpr ⟨i, i1, i2, t3⟩)
            exact (fp_H_B hH (by omega) hk hf).mpr (by omega)
        unfold fp_hd
        rw [if_pos ⟨hT, hop⟩]
      · have hop : ¬ fp_op (fp_ct b T 16) k u v = true := by
          intro t
          obtain ⟨i, i1, i2, i3⟩ := (fp_op_iff v).mp t
          have t2 := (fp_H_B hH (by omega) hk i3).mp (hall (fp_ct b T 16 i) i3 i (by rw [fp_lo16]; exact i1) (by rw [fp_hi16]; exact i2))
          exact absurd t2 (Nat.lt_irrefl _)
        unfold fp_hd
        rw [if_neg (fun t => hop t.2), Nat.add_zero]
    · rw [if_neg hT]
      refine br_f fp_01 (nm_r (nI_1 16) (fin _ _ _ _ _ _ _ _ _ ?_))
      unfold fp_hd
      rw [if_neg (fun t => hT t.1), Nat.add_zero]
  | succ d ih =>
    intro e p a3 a4 a5 a6 a7 a8 a9 he hH
    have he16 : e < 16 := by omega
    refine pk_lt 16 e (fun t => absurd t (by omega)) (fun _ => ?_)
    rw [hK e (by omega)]
    by_cases hT : T e = true
    · rw [if_pos hT]
      have hb5 : b e < 5 := by
        have t := (hG e (by omega) hT).2.2.2
        rw [fp_hiN he16] at t
        omega
      refine br_t rfl (fp_bring (by omega) hG hK (fp_H_U hH (by omega) hk) hk (by omega) hT (fp_H_off hH (by omega)) (fun f hf hb hc p' b4 b5 b6 b7 b8 b9 => ?_) (fun hall p' b4 b5 b6 b7 b8 b9 => ?_))
      · have hc' : ¬ f < fp_ct b T e (b e) := fun t => hc ((fp_H_J hH he16 hk hf).mpr t)
        have hfe : fp_ct b T e (b e) = f := by
          by_cases t : fp_ct b T e (b e) < f
          · exact absurd ((fp_H_J hH he16 hk (by omega)).mp (hb _ t)) (Nat.lt_irrefl _)
          · omega
        have hlt : fp_ct b T e (b e) < k := by omega
        have hH' := fp_H_put hH hT hlt
        rw [hfe] at hH'
        exact br_f fp_10 (nm_r ((nI_1 _).trans (congrArg nI (fp_mn_put hT hb5 hlt).symm)) (nm_r (nI_1 e) (ih (e + 1) _ _ _ _ _ _ _ _ (by omega) hH')))
      · have hge : ¬ (T e = true ∧ fp_ct b T e (b e) < k) := fun t => absurd ((fp_H_J hH he16 hk t.2).mp (hall _ t.2)) (Nat.lt_irrefl _)
        have t := ih (e + 1) (nI p') a3 b4 b5 b6 b7 b8 b9 (by omega) (fp_H_skip hH hge)
        rw [fp_mn_skip hge] at t
        exact br_t rfl (nm_r (nI_1 e) t)
    · rw [if_neg hT]
      have hge : ¬ (T e = true ∧ fp_ct b T e (b e) < k) := fun t => hT t.1
      have t := ih (e + 1) p a3 a4 a5 a6 a7 a8 a9 (by omega) (fp_H_skip hH hge)
      rw [fp_mn_skip hge] at t
      exact br_f fp_01 (nm_r (nI_1 e) t)
theorem fp_held {post : Int32 → St2 → Prop} {n k u v : Nat} {b : Nat → Nat} {T : Nat → Bool} {fc tk pv set : Int32} {a1 a2 a3 a4 a5 a6 a7 a8 a9 : Nat → Int32}
    (hn : n ≤ 6) (hk : k ≤ 16) (hG : fp_G n T (fp_lo b u) (fp_hi b v) a1 a2) (hK : fp_K set T)
    (H : ∀ (p : Int32) (a3 a4 a5 a6 a7 a8 a9 : Nat → Int32), post (nI (fp_hd b T k u v)) (nI n, fc, set, p, a1, a2, a3, a4, a5, a6, a7, a8, a9)) :
    wpX_held post (nI n, fc, tk, pv, a1, a2, a3, a4, a5, a6, a7, a8, a9) set (nI k) := by
  have hb5 : ∀ e, e < 16 → T e = true → b e < 5 := by
    intro e he hT
    have t := (hG e (by omega) hT).2.2.2
    rw [fp_hiN he] at t
    omega
  have huv : T 16 = true → u < v ∧ v ≤ 5 := by
    intro hT
    have t := (hG 16 (by omega) hT).2.2
    rw [fp_lo16, fp_hi16] at t
    omega
  have h0 : fp_sm (fun i => min (fp_ct b T 0 i) k) = 0 := by
    simp [fp_sm, fp_ct]
  have key : ∀ (d e : Nat) (a3 : Nat → Int32), e + d = 17 → (∀ j, j < e → a3 j = -1) → wX_held_10 post set (nI k) (nI n) fc set pv (d + 1) (nI (fp_tn T e)) (nI e) a1 a2 a3 a4 a5 a6 a7 a8 a9 := by
    intro d
    induction d with
    | zero =>
      intro e a3 he h
      have he' : e = 17 := by omega
      subst he'
      have htn := fp_tn_le T 17
      refine pk_lt 16 17 (fun _ => pk_lt k (fp_tn T 17) (fun _ => ?_) (fun z => ?_)) (fun t => absurd t (by omega))
      · have hH0 : fp_H b T k 0 a3 := by
          intro e' he'
          rw [h e' he', if_neg (fun t => absurd t.1 (Nat.not_lt_zero _))]
        have t := fp_53 (post := post) (fc := fc) hn hk hG hK H 16 0 pv a3 a4 a5 a6 a7 a8 a9 rfl hH0
        rw [h0] at t
        exact ⟨18, t⟩
      · have t := H pv a3 a4 a5 a6 a7 a8 a9
        rw [fp_hd_all z hb5 huv] at t
        exact t
    | succ d ih =>
      intro e a3 he h
      refine pk_lt 16 e (fun t => absurd t (by omega)) (fun _ => ⟨pk_in e 17 (by omega), ?_⟩)
      rw [nI_clamp (show e < 2 ^ 31 by omega), hK e (by omega)]
      refine nm_e (nm_r (e' := nI (fp_tn T (e + 1))) ?_ (nm_r (nI_1 e) (ih (e + 1) _ (by omega) (fun j hj => ?_))))
      · have t : (if T e = true then (1 : Int32) else 0) = nI (if T e = true then 1 else 0) := by split <;> rfl
        rw [t, fp_tn_s]
        exact nI_add _ _
      · by_cases t : j = e
        · rw [t, pk_us]
        · rw [pk_un t]
          exact h j (by omega)
  exact ⟨18, key 17 0 a3 rfl (fun j hj => absurd hj (Nat.not_lt_zero _))⟩
end
section
/-- the picture between calls: c edges, edge e joins b e and b e + 1; bundle i has M i edges -/
def fp_P (n c : Nat) (b M : Nat → Nat) (a1 a2 : Nat → Int32) : Prop := 2 ≤ n ∧ n ≤ 6 ∧ c ≤ 15 ∧ (∀ e, e < c → a1 e = nI (b e) ∧ a2 e = nI (b e + 1) ∧ b e + 1 < n) ∧ ∀ i, fp_ct b (fun _ => true) c i = M i
theorem fp_K_all : ∀ c, c < 16 → ∀ e, e < 17 → ((((1 : Int32) <<< (nI c &&& 31)) - 1) >>> (nI e &&& 31)) &&& 1 = if decide (e < c) = true then 1 else 0 := by decide +kernel
theorem fp_K_w : ∀ c, c < 16 → ∀ e, e < 17 → (((((1 : Int32) <<< (nI c &&& 31)) - 1) ||| 65536) >>> (nI e &&& 31)) &&& 1 = if decide (e < c ∨ e = 16) = true then 1 else 0 := by decide +kernel
theorem fp_K_r : ∀ c, c < 16 → ∀ x, x < 16 → ∀ e, e < 17 → (((((1 : Int32) <<< (nI c &&& 31)) - 1) &&& (((1 : Int32) <<< (nI x &&& 31)) ^^^ (-1))) >>> (nI e &&& 31)) &&& 1 = if decide (e < c ∧ e ≠ x) = true then 1 else 0 := by decide +kernel
theorem fp_ct_bd {b : Nat → Nat} {T : Nat → Bool} {i : Nat} : ∀ e, fp_ct b T e i ≤ e := by
  intro e
  induction e with
  | zero => exact Nat.le_refl 0
  | succ e ih =>
    rw [fp_ct_s]
    split <;> omega
theorem fp_ct_all {b : Nat → Nat} {T : Nat → Bool} {c i : Nat} (hc : c ≤ 16) (h1 : ∀ e, e < c → T e = true) (h2 : ∀ e, c ≤ e → e < 16 → T e = false) : fp_ct b T 16 i = fp_ct b (fun _ => true) c i := by
  have t := fp_ct_cut (b := b) (T := T) (i := i) (c := c) (16 - c) (fun e q1 q2 => h2 e q1 (by omega))
  rw [show c + (16 - c) = 16 by omega] at t
  rw [t]
  exact fp_ct_congr c (fun e he => h1 e he)
theorem fp_P_bd {n c : Nat} {b M : Nat → Nat} {a1 a2 : Nat → Int32} (hP : fp_P n c b M a1 a2) (i : Nat) : M i ≤ 15 := by
  obtain ⟨_, _, h2, _, h4⟩ := hP
  rw [← h4 i]
  exact Nat.le_trans (fp_ct_bd c) h2
theorem fp_mn_bd {n c : Nat} {b M : Nat → Nat} {a1 a2 : Nat → Int32} (hP : fp_P n c b M a1 a2) (k : Nat) : fp_sm (fun i => min (M i) k) ≤ 75 := by
  have h0 := fp_P_bd hP 0
  have h1 := fp_P_bd hP 1
  have h2 := fp_P_bd hP 2
  have h3 := fp_P_bd hP 3
  have h4 := fp_P_bd hP 4
  show min (M 0) k + min (M 1) k + min (M 2) k + min (M 3) k + min (M 4) k ≤ 75
  omega
theorem fp_heldP {post : Int32 → St2 → Prop} {n c k : Nat} {b M : Nat → Nat} {T : Nat → Bool} {tk pv set : Int32} {a1 a2 a3 a4 a5 a6 a7 a8 a9 : Nat → Int32}
    (hP : fp_P n c b M a1 a2) (hk : k ≤ 16) (hK : fp_K set T) (hT : ∀ e, e < 17 → T e = true → e < c)
    (H : ∀ (p : Int32) (a3 a4 a5 a6 a7 a8 a9 : Nat → Int32), post (nI (fp_sm (fun i => min (fp_ct b T 16 i) k))) (nI n, nI c, set, p, a1, a2, a3, a4, a5, a6, a7, a8, a9)) :
    wpX_held post (nI n, nI c, tk, pv, a1, a2, a3, a4, a5, a6, a7, a8, a9) set (nI k) := by
  obtain ⟨p1, p2, p3, p4, p5⟩ := hP
  have h16 : ¬ T 16 = true := fun t => absurd (hT 16 (by omega) t) (by omega)
  have hd : fp_hd b T k 0 1 = fp_sm (fun i => min (fp_ct b T 16 i) k) := by
    unfold fp_hd
    rw [if_neg (fun t => h16 t.1), Nat.add_zero]
  refine fp_held (u := 0) (v := 1) (b := b) (T := T) p2 hk (fun e he hTe => ?_) hK (fun p b3 b4 b5 b6 b7 b8 b9 => ?_)
  · have hec := hT e he hTe
    obtain ⟨q1, q2, q3⟩ := p4 e hec
    rw [fp_loN (by omega), fp_hiN (by omega)]
    exact ⟨q1, q2, by omega, q3⟩
  · rw [hd]
    exact H p b3 b4 b5 b6 b7 b8 b9
theorem fp_heldA {post : Int32 → St2 → Prop} {n c k : Nat} {b M : Nat → Nat} {tk pv : Int32} {a1 a2 a3 a4 a5 a6 a7 a8 a9 : Nat → Int32}
    (hP : fp_P n c b M a1 a2) (hk : k ≤ 16)
    (H : ∀ (tk p : Int32) (a3 a4 a5 a6 a7 a8 a9 : Nat → Int32), post (nI (fp_sm (fun i => min (M i) k))) (nI n, nI c, tk, p, a1, a2, a3, a4, a5, a6, a7, a8, a9)) :
    wpX_held post (nI n, nI c, tk, pv, a1, a2, a3, a4, a5, a6, a7, a8, a9) (((1 : Int32) <<< (nI c &&& 31)) - 1) (nI k) := by
  have hc : c ≤ 15 := hP.2.2.1
  refine fp_heldP (T := fun e => decide (e < c)) hP hk (fp_K_all c (by omega)) (fun e _ h => of_decide_eq_true h) (fun p b3 b4 b5 b6 b7 b8 b9 => ?_)
  have t : fp_sm (fun i => min (fp_ct b (fun e => decide (e < c)) 16 i) k) = fp_sm (fun i => min (M i) k) := fp_sm_eq (fun i _ => by
    show min (fp_ct b (fun e => decide (e < c)) 16 i) k = min (M i) k
    rw [fp_ct_all (T := fun e => decide (e < c)) (c := c) (by omega) (fun e he => decide_eq_true he) (fun e he _ => decide_eq_false (by omega)), hP.2.2.2.2 i])
  rw [t]
  exact H _ p b3 b4 b5 b6 b7 b8 b9
theorem fp_allE {post : Int32 → Prop} {fn fc tk pv : Int32} {a1 a2 a3 a4 a5 a6 a7 a8 a9 : Nat → Int32} (H : post (((1 : Int32) <<< (fc &&& 31)) - 1)) : wpX_allEdges post (fn, fc, tk, pv, a1, a2, a3, a4, a5, a6, a7, a8, a9) := H
theorem fp_badC {post : Int32 → Prop} {k : Nat} {fn fc tk pv : Int32} {a1 a2 a3 a4 a5 a6 a7 a8 a9 : Nat → Int32} (hk : k ≤ 16) (H : post 0) : wpX_badCount post (fn, fc, tk, pv, a1, a2, a3, a4, a5, a6, a7, a8, a9) (nI k) :=
  br_f (nI_pos (by omega)) (pk_le k 16 (fun _ => H) (fun z => absurd z (by omega)))
theorem fp_badP {post : Int32 → Prop} {n u v : Nat} {fc tk pv : Int32} {a1 a2 a3 a4 a5 a6 a7 a8 a9 : Nat → Int32} (hn : n ≤ 6) (hu : u < n) (hv : v < n) (huv : u ≠ v) (H : post 0) : wpX_badPair post (nI n, fc, tk, pv, a1, a2, a3, a4, a5, a6, a7, a8, a9) (nI u) (nI v) :=
  br_f (nI_pos (by omega)) (pk_le n u (fun z => absurd z (by omega)) (fun _ => br_f (nI_pos (by omega)) (pk_le n v (fun z => absurd z (by omega)) (fun _ => pk_eq u v (fun z => absurd z huv) (fun _ => H)))))
theorem fp_hold {post : Int32 → St2 → Prop} {n c k : Nat} {b M : Nat → Nat} {tk pv : Int32} {a1 a2 a3 a4 a5 a6 a7 a8 a9 : Nat → Int32}
    (hP : fp_P n c b M a1 a2) (hk : k ≤ 16)
    (H : ∀ (tk p : Int32) (a3 a4 a5 a6 a7 a8 a9 : Nat → Int32), post (nI (fp_sm (fun i => min (M i) k))) (nI n, nI c, tk, p, a1, a2, a3, a4, a5, a6, a7, a8, a9)) :
    wpX_hold post (nI n, nI c, tk, pv, a1, a2, a3, a4, a5, a6, a7, a8, a9) (nI k) := by
  unfold wpX_hold
  dsimp only
  refine fp_badC hk (br_t rfl (fp_allE ?_))
  exact fp_heldA hP hk H
theorem fp_needed {post : Int32 → St2 → Prop} {n c mx : Nat} {b M : Nat → Nat} {tk pv : Int32} {a1 a2 a3 a4 a5 a6 a7 a8 a9 : Nat → Int32}
    (hP : fp_P n c b M a1 a2) (hmx : ∀ k, fp_sm (fun i => min (M i) k) = c ↔ mx ≤ k) (h3 : mx ≤ 3)
    (H : ∀ (tk p : Int32) (a3 a4 a5 a6 a7 a8 a9 : Nat → Int32), post (nI mx) (nI n, nI c, tk, p, a1, a2, a3, a4, a5, a6, a7, a8, a9)) :
    wpX_needed post (nI n, nI c, tk, pv, a1, a2, a3, a4, a5, a6, a7, a8, a9) := by
  have hc : c ≤ 15 := hP.2.2.1
  have key : ∀ (d k : Nat) (tk p : Int32) (a3 a4 a5 a6 a7 a8 a9 : Nat → Int32), k + d = mx → wX_needed_7 post (((1 : Int32) <<< (nI c &&& 31)) - 1) (d + 1) (nI k) (nI n) (nI c) tk p a1 a2 a3 a4 a5 a6 a7 a8 a9 := by
    intro d
    induction d with
    | zero =>
      intro k tk p a3 a4 a5 a6 a7 a8 a9 hk
      have hk' : k = mx := by omega
      subst hk'
      refine pk_le 16 k (fun z => absurd z (by omega)) (fun _ => fp_heldA hP (by omega) (fun tk' p' b3 b4 b5 b6 b7 b8 b9 => ?_))
      exact br_t (congrArg nI ((hmx k).mpr (Nat.le_refl _))) (H tk' p' b3 b4 b5 b6 b7 b8 b9)
    | succ d ih =>
      intro k tk p a3 a4 a5 a6 a7 a8 a9 hk
      refine pk_le 16 k (fun z => absurd z (by omega)) (fun _ => fp_heldA hP (by omega) (fun tk' p' b3 b4 b5 b6 b7 b8 b9 => ?_))
      have hb := fp_mn_bd hP k
      exact pk_eq (fp_sm (fun i => min (M i) k)) c (fun z => absurd ((hmx k).mp z) (by omega)) (fun _ => nm_r (nI_1 k) (ih (k + 1) tk' p' b3 b4 b5 b6 b7 b8 b9 (by omega)))
  unfold wpX_needed
  dsimp only
  refine fp_allE ?_
  exact ⟨mx + 1, key mx 0 tk pv a3 a4 a5 a6 a7 a8 a9 (by omega)⟩
theorem fp_trees {post : Int32 → St2 → Prop} {n c le : Nat} {b M : Nat → Nat} {tk pv : Int32} {a1 a2 a3 a4 a5 a6 a7 a8 a9 : Nat → Int32}
    (hP : fp_P n c b M a1 a2) (hle : ∀ k, 1 ≤ k → (fp_sm (fun i => min (M i) k) = k * (n - 1) ↔ k ≤ le)) (h3 : le ≤ 3)
    (H : ∀ (tk p : Int32) (a3 a4 a5 a6 a7 a8 a9 : Nat → Int32), post (nI le) (nI n, nI c, tk, p, a1, a2, a3, a4, a5, a6, a7, a8, a9)) :
    wpX_trees post (nI n, nI c, tk, pv, a1, a2, a3, a4, a5, a6, a7, a8, a9) := by
  have hc : c ≤ 15 := hP.2.2.1
  have hn : n ≤ 6 := hP.2.1
  have hn2 : 2 ≤ n := hP.1
  have key : ∀ (d j : Nat) (tk p : Int32) (a3 a4 a5 a6 a7 a8 a9 : Nat → Int32), j + d = le → wX_trees_12 post (((1 : Int32) <<< (nI c &&& 31)) - 1) (d + 2) (nI j) 1 (nI (j + 1)) (nI n) (nI c) tk p a1 a2 a3 a4 a5 a6 a7 a8 a9 := by
    intro d
    induction d with
    | zero =>
      intro j tk p a3 a4 a5 a6 a7 a8 a9 hj
      have hj' : j = le := by omega
      subst hj'
      have em : nI (j + 1) * (nI n - 1) = nI ((j + 1) * (n - 1)) := by
        have e1 : nI n - 1 = nI (n - 1) := pk_sub (b := 1) (by omega)
        rw [e1, pk_mul]
      have hb := fp_mn_bd hP (j + 1)
      have hb2 : (j + 1) * (n - 1) ≤ 4 * 5 := Nat.mul_le_mul (by omega) (by omega)
      refine pk_lt 16 (j + 1) (fun z => absurd z (by omega)) (fun _ => br_f fp_10 (fp_heldA hP (by omega) (fun tk' p' b3 b4 b5 b6 b7 b8 b9 => ?_)))
      refine pk_eq (fp_sm (fun i => min (M i) (j + 1))) ((j + 1) * (n - 1)) (fun z => absurd ((hle (j + 1) (by omega)).mp z) (by omega)) (fun _ => ?_) rfl em
      refine br_t rfl (nm_r (nI_1 (j + 1)) ?_)
      exact pk_lt 16 (j + 1 + 1) (fun _ => H tk' p' b3 b4 b5 b6 b7 b8 b9) (fun _ => br_t rfl (H tk' p' b3 b4 b5 b6 b7 b8 b9))
    | succ d ih =>
      intro j tk p a3 a4 a5 a6 a7 a8 a9 hj
      have em : nI (j + 1) * (nI n - 1) = nI ((j + 1) * (n - 1)) := by
        have e1 : nI n - 1 = nI (n - 1) := pk_sub (b := 1) (by omega)
        rw [e1, pk_mul]
      have hb := fp_mn_bd hP (j + 1)
      have hb2 : (j + 1) * (n - 1) ≤ 4 * 5 := Nat.mul_le_mul (by omega) (by omega)
      refine pk_lt 16 (j + 1) (fun z => absurd z (by omega)) (fun _ => br_f fp_10 (fp_heldA hP (by omega) (fun tk' p' b3 b4 b5 b6 b7 b8 b9 => ?_)))
      refine pk_eq (fp_sm (fun i => min (M i) (j + 1))) ((j + 1) * (n - 1)) (fun _ => ?_) (fun z => absurd ((hle (j + 1) (by omega)).mpr (by omega)) z) rfl em
      exact br_f fp_10 (nm_r (nI_1 (j + 1)) (ih (j + 1) tk' p' b3 b4 b5 b6 b7 b8 b9 (by omega)))
  unfold wpX_trees
  dsimp only
  refine fp_allE ?_
  exact ⟨le + 2, key le 0 tk pv a3 a4 a5 a6 a7 a8 a9 (by omega)⟩
theorem fp_firm {post : Int32 → St2 → Prop} {n c k : Nat} {b M : Nat → Nat} {tk pv : Int32} {a1 a2 a3 a4 a5 a6 a7 a8 a9 : Nat → Int32}
    (hP : fp_P n c b M a1 a2) (hk : k ≤ 16)
    (H : ∀ (tk p : Int32) (a3 a4 a5 a6 a7 a8 a9 : Nat → Int32), post (nI (fp_sm (fun i => if M i ≤ k then M i else 0))) (nI n, nI c, tk, p, a1, a2, a3, a4, a5, a6, a7, a8, a9)) :
    wpX_firm post (nI n, nI c, tk, pv, a1, a2, a3, a4, a5, a6, a7, a8, a9) (nI k) := by
  have hc : c ≤ 15 := hP.2.2.1
  have hn : n ≤ 6 := hP.2.1
  have key : ∀ (d e : Nat) (tk p : Int32) (a3 a4 a5 a6 a7 a8 a9 : Nat → Int32), e + d = c → wX_firm_28 post (nI k) (((1 : Int32) <<< (nI c &&& 31)) - 1) (nI (fp_sm (fun i => min (M i) k))) (d + 1) (nI (fp_sm (fun i => if M i ≤ k then fp_ct b (fun _ => true) e i else 0))) (nI e) (nI n) (nI c) tk p a1 a2 a3 a4 a5 a6 a7 a8 a9 := by
    intro d
    induction d with
    | zero =>
      intro e tk p a3 a4 a5 a6 a7 a8 a9 he
      have he' : e = c := by omega
      have t : fp_sm (fun i => if M i ≤ k then fp_ct b (fun _ => true) e i else 0) = fp_sm (fun i => if M i ≤ k then M i else 0) := fp_sm_eq (fun i _ => by
        show (if M i ≤ k then fp_ct b (fun _ => true) e i else 0) = if M i ≤ k then M i else 0
        rw [he', hP.2.2.2.2 i])
      rw [t]
      exact pk_le c e (fun _ => H tk p a3 a4 a5 a6 a7 a8 a9) (fun z => absurd z (by omega))
    | succ d ih =>
      intro e tk p a3 a4 a5 a6 a7 a8 a9 he
      have hec : e < c := by omega
      have hb5 : b e < 5 := by
        have t := (hP.2.2.2.1 e hec).2.2
        omega
      have hM : ∀ i, M i = fp_ct b (fun x => decide (x < c ∧ x ≠ e)) 16 i + if e < 16 ∧ b e = i then 1 else 0 := by
        intro i
        rw [← hP.2.2.2.2 i, ← fp_ct_all (T := fun x => decide (x < c)) (c := c) (by omega) (fun x hx => decide_eq_true hx) (fun x hx _ => decide_eq_false (by omega))]
        refine fp_ct_rem (T := fun x => decide (x < c)) (T' := fun x => decide (x < c ∧ x ≠ e)) (x := e) (decide_eq_true hec) (decide_eq_false (fun t => t.2 rfl)) (fun x hx => ?_) 16
        exact decide_eq_decide.mpr ⟨fun t => t.1, fun t => ⟨t, hx⟩⟩
      have hMe : M (b e) = fp_ct b (fun x => decide (x < c ∧ x ≠ e)) 16 (b e) + 1 := by
        rw [hM (b e), if_pos ⟨by omega, rfl⟩]
      have hMo : ∀ i, i ≠ b e → M i = fp_ct b (fun x => decide (x < c ∧ x ≠ e)) 16 i := by
        intro i hi
        rw [hM i, if_neg (fun t => hi t.2.symm), Nat.add_zero]
      have hb := fp_mn_bd hP k
      have hw : fp_sm (fun i => min (M i) k) = fp_sm (fun i => min (fp_ct b (fun x => decide (x < c ∧ x ≠ e)) 16 i) k) + if M (b e) ≤ k then 1 else 0 := by
        refine fp_sm_up hb5 (fun i hi => ?_) ?_
        · show min (M i) k = min (fp_ct b (fun x => decide (x < c ∧ x ≠ e)) 16 i) k
          rw [hMo i hi]
        · show min (M (b e)) k = min (fp_ct b (fun x => decide (x < c ∧ x ≠ e)) 16 (b e)) k + if M (b e) ≤ k then 1 else 0
          split <;> omega
      have hF : fp_sm (fun i => if M i ≤ k then fp_ct b (fun _ => true) (e + 1) i else 0) = fp_sm (fun i => if M i ≤ k then fp_ct b (fun _ => true) e i else 0) + if M (b e) ≤ k then 1 else 0 := by
        refine fp_sm_up hb5 (fun i hi => ?_) ?_
        · show (if M i ≤ k then fp_ct b (fun _ => true) (e + 1) i else 0) = if M i ≤ k then fp_ct b (fun _ => true) e i else 0
          rw [fp_ct_n (fun z => hi z.2.symm)]
        · show (if M (b e) ≤ k then fp_ct b (fun _ => true) (e + 1) (b e) else 0) = (if M (b e) ≤ k then fp_ct b (fun _ => true) e (b e) else 0) + if M (b e) ≤ k then 1 else 0
          rw [fp_ct_y (b := b) (T := fun _ => true) (e := e) (i := b e) rfl rfl]
          split <;> rfl
      refine pk_le c e (fun z => absurd z (by omega)) (fun _ => fp_heldP (T := fun x => decide (x < c ∧ x ≠ e)) hP hk (fp_K_r c (by omega) e (by omega)) (fun x _ h => (of_decide_eq_true h).1) (fun p' b3 b4 b5 b6 b7 b8 b9 => ?_))
      have t := fun tk' => ih (e + 1) tk' p' b3 b4 b5 b6 b7 b8 b9 (by omega)
      rw [hF] at t
      refine pk_le (fp_sm (fun i => min (M i) k)) (fp_sm (fun i => min (fp_ct b (fun x => decide (x < c ∧ x ≠ e)) 16 i) k)) (fun z => ?_) (fun z => ?_)
      · have hg : ¬ M (b e) ≤ k := by
          intro h
          rw [if_pos h] at hw
          omega
        rw [if_neg hg, Nat.add_zero] at t
        exact nm_r (nI_1 e) (t _)
      · have hg : M (b e) ≤ k := by
          by_cases h : M (b e) ≤ k
          · exact h
          · rw [if_neg h] at hw
            omega
        rw [if_pos hg] at t
        exact nm_r (nI_1 _) (nm_r (nI_1 e) (t _))
  have h0 : fp_sm (fun i => if M i ≤ k then fp_ct b (fun _ => true) 0 i else 0) = 0 := by
    simp [fp_sm, fp_ct]
  unfold wpX_firm
  dsimp only
  refine fp_badC hk (br_t rfl (fp_allE ?_))
  refine fp_heldA hP hk (fun tk' p' b3 b4 b5 b6 b7 b8 b9 => ?_)
  have t := key c 0 tk' p' b3 b4 b5 b6 b7 b8 b9 (by omega)
  rw [h0] at t
  exact ⟨c + 1, t⟩
theorem fp_parts {post : Int32 → St2 → Prop} {n c : Nat} {b M : Nat → Nat} {tk pv : Int32} {a1 a2 a3 a4 a5 a6 a7 a8 a9 : Nat → Int32}
    (hP : fp_P n c b M a1 a2)
    (H : ∀ (tk p : Int32) (a3 a4 a5 a6 a7 a8 a9 : Nat → Int32), post (nI n - nI (fp_sm (fun i => min (M i) 1))) (nI n, nI c, tk, p, a1, a2, a3, a4, a5, a6, a7, a8, a9)) :
    wpX_parts post (nI n, nI c, tk, pv, a1, a2, a3, a4, a5, a6, a7, a8, a9) := by
  unfold wpX_parts
  dsimp only
  refine fp_allE ?_
  exact fp_heldA (k := 1) hP (by omega) H
theorem fp_welcome {post : Int32 → St2 → Prop} {n c k u v : Nat} {b M : Nat → Nat} {tk pv : Int32} {a1 a2 a3 a4 a5 a6 a7 a8 a9 : Nat → Int32}
    (hP : fp_P n c b M a1 a2) (hk : k ≤ 16) (huv : u < v) (hv : v < n)
    (H : ∀ (tk p : Int32) (a1 a2 a3 a4 a5 a6 a7 a8 a9 : Nat → Int32), fp_P n c b M a1 a2 → post (if fp_op M k u v = true then 1 else 0) (nI n, nI c, tk, p, a1, a2, a3, a4, a5, a6, a7, a8, a9)) :
    wpX_welcome post (nI n, nI c, tk, pv, a1, a2, a3, a4, a5, a6, a7, a8, a9) (nI u) (nI v) (nI k) := by
  obtain ⟨p1, p2, p3, p4, p5⟩ := hP
  have hP' : fp_P n c b M (upd a1 16 (nI u)) (upd a2 16 (nI v)) := by
    refine ⟨p1, p2, p3, fun e he => ?_, p5⟩
    rw [pk_un (by omega), pk_un (by omega)]
    exact p4 e he
  have hM : fp_ct b (fun e => decide (e < c ∨ e = 16)) 16 = M := by
    funext i
    rw [fp_ct_all (T := fun e => decide (e < c ∨ e = 16)) (c := c) (by omega) (fun e he => decide_eq_true (Or.inl he)) (fun e h1 h2 => decide_eq_false (by omega)), p5 i]
  have hd : fp_hd b (fun e => decide (e < c ∨ e = 16)) k u v = fp_sm (fun i => min (M i) k) + if fp_op M k u v = true then 1 else 0 := by
    unfold fp_hd
    rw [hM]
    congr 1
    exact fp_ifc ⟨fun t => t.2, fun t => ⟨decide_eq_true (Or.inr rfl), t⟩⟩
  have hb := fp_mn_bd hP' k
  unfold wpX_welcome
  dsimp only
  refine fp_badP p2 (by omega) hv (by omega) (br_t rfl (fp_badC hk (br_t rfl (nm_e (nm_e (fp_allE ?_))))))
  refine fp_heldA hP' hk (fun tk' p' b3 b4 b5 b6 b7 b8 b9 => ?_)
  refine fp_held (u := u) (v := v) (b := b) (T := fun e => decide (e < c ∨ e = 16)) p2 hk (fun e he hTe => ?_) (fp_K_w c (by omega)) (fun p'' c3 c4 c5 c6 c7 c8 c9 => ?_)
  · rcases of_decide_eq_true hTe with hec | hec
    · obtain ⟨q1, q2, q3⟩ := hP'.2.2.2.1 e hec
      rw [fp_loN (by omega), fp_hiN (by omega)]
      exact ⟨q1, q2, by omega, q3⟩
    · subst hec
      rw [fp_lo16, fp_hi16]
      exact ⟨pk_us (f := a1) (k := 16), pk_us (f := a2) (k := 16), huv, hv⟩
  · rw [hd]
    have t := fun tk' => H tk' p'' _ _ c3 c4 c5 c6 c7 c8 c9 hP'
    by_cases ho : fp_op M k u v = true
    · rw [if_pos ho] at t
      rw [if_pos ho]
      exact pk_le (fp_sm (fun i => min (M i) k) + 1) (fp_sm (fun i => min (M i) k)) (fun z => absurd z (by omega)) (fun _ => t _)
    · rw [if_neg ho] at t
      rw [if_neg ho]
      exact pk_le (fp_sm (fun i => min (M i) k) + 0) (fp_sm (fun i => min (M i) k)) (fun _ => t _) (fun z => absurd z (by omega))
/-- the pairs of u with a vertex below v that are welcome -/
def fp_rw (n : Nat) (M : Nat → Nat) (k u : Nat) : Nat → Nat
  | 0 => 0
  | v + 1 => fp_rw n M k u v + if u < v ∧ v < n ∧ fp_op M k u v = true then 1 else 0
theorem fp_rw_s (n : Nat) (M : Nat → Nat) (k u v : Nat) : fp_rw n M k u (v + 1) = fp_rw n M k u v + if u < v ∧ v < n ∧ fp_op M k u v = true then 1 else 0 := rfl
def fp_to (n : Nat) (M : Nat → Nat) (k : Nat) : Nat → Nat
  | 0 => 0
  | u + 1 => fp_to n M k u + fp_rw n M k u 6
theorem fp_to_s (n : Nat) (M : Nat → Nat) (k u : Nat) : fp_to n M k (u + 1) = fp_to n M k u + fp_rw n M k u 6 := rfl
theorem fp_rw_lo {n : Nat} {M : Nat → Nat} {k u : Nat} : ∀ v, v ≤ u + 1 → fp_rw n M k u v = 0 := by
  intro v
  induction v with
  | zero => intro _; rfl
  | succ v ih =>
    intro h
    rw [fp_rw_s, ih (by omega), if_neg (fun t => absurd t.1 (by omega)), Nat.add_zero]
theorem fp_rw_out {n : Nat} {M : Nat → Nat} {k u : Nat} (hu : n ≤ u) : ∀ v, fp_rw n M k u v = 0 := by
  intro v
  induction v with
  | zero => rfl
  | succ v ih => rw [fp_rw_s, ih, if_neg (fun t => absurd t.1 (by have := t.2.1; omega)), Nat.add_zero]
theorem fp_rw_hi {n : Nat} {M : Nat → Nat} {k u : Nat} : ∀ d, fp_rw n M k u (n + d) = fp_rw n M k u n := by
  intro d
  induction d with
  | zero => rfl
  | succ d ih =>
    rw [← ih]
    show fp_rw n M k u (n + d + 1) = fp_rw n M k u (n + d)
    rw [fp_rw_s, if_neg (fun t => absurd t.2.1 (by omega)), Nat.add_zero]
theorem fp_to_hi {n : Nat} {M : Nat → Nat} {k : Nat} : ∀ d, fp_to n M k (n + d) = fp_to n M k n := by
  intro d
  induction d with
  | zero => rfl
  | succ d ih =>
    rw [← ih]
    show fp_to n M k (n + d + 1) = fp_to n M k (n + d)
    rw [fp_to_s, fp_rw_out (by omega), Nat.add_zero]
theorem fp_room {post : Int32 → St2 → Prop} {n c k : Nat} {b M : Nat → Nat} {tk pv : Int32} {a1 a2 a3 a4 a5 a6 a7 a8 a9 : Nat → Int32}
    (hP : fp_P n c b M a1 a2) (hk : k ≤ 16)
    (H : ∀ (tk p : Int32) (a1 a2 a3 a4 a5 a6 a7 a8 a9 : Nat → Int32), fp_P n c b M a1 a2 → post (nI (fp_to n M k 6)) (nI n, nI c, tk, p, a1, a2, a3, a4, a5, a6, a7, a8, a9)) :
    wpX_room post (nI n, nI c, tk, pv, a1, a2, a3, a4, a5, a6, a7, a8, a9) (nI k) := by
  have hc : c ≤ 15 := hP.2.2.1
  have hn : n ≤ 6 := hP.2.1
  have inner : ∀ (J14 : Int32 → Int32 → Int32 → Int32 → Int32 → Int32 → (Nat → Int32) → (Nat → Int32) → (Nat → Int32) → (Nat → Int32) → (Nat → Int32) → (Nat → Int32) → (Nat → Int32) → (Nat → Int32) → (Nat → Int32) → Prop) (u s : Nat), u < n → (∀ (tk p : Int32) (a1 a2 a3 a4 a5 a6 a7 a8 a9 : Nat → Int32), fp_P n c b M a1 a2 → J14 (nI (s + fp_rw n M k u n)) (nI (u + 1)) (nI n) (nI c) tk p a1 a2 a3 a4 a5 a6 a7 a8 a9) →
      ∀ (d v : Nat) (tk p : Int32) (a1 a2 a3 a4 a5 a6 a7 a8 a9 : Nat → Int32), v + d = n → u < v → fp_P n c b M a1 a2 → wX_room_27 post J14 (nI k) (nI u) (d + 1) (nI (s + fp_rw n M k u v)) (nI v) (nI n) (nI c) tk p a1 a2 a3 a4 a5 a6 a7 a8 a9 := by
    intro J14 u s hu HJ d
    induction d with
    | zero =>
      intro v tk p a1 a2 a3 a4 a5 a6 a7 a8 a9 hv huv hP
      have hv' : v = n := by omega
      subst hv'
      exact pk_le v v (fun _ => nm_r (nI_1 u) (HJ tk p a1 a2 a3 a4 a5 a6 a7 a8 a9 hP)) (fun z => absurd z (by omega))
    | succ d ih =>
      intro v tk p a1 a2 a3 a4 a5 a6 a7 a8 a9 hv huv hP
      refine pk_le n v (fun z => absurd z (by omega)) (fun _ => fp_welcome hP hk huv (by omega) (fun tk' p' b1 b2 b3 b4 b5 b6 b7 b8 b9 hP' => ?_))
      have t := ih (v + 1) tk' p' b1 b2 b3 b4 b5 b6 b7 b8 b9 (by omega) (by omega) hP'
      rw [fp_rw_s] at t
      by_cases ho : fp_op M k u v = true
      · rw [if_pos ⟨huv, by omega, ho⟩] at t
        rw [if_pos ho]
        exact br_f fp_10 (nm_r (nI_1 _) (nm_r (nI_1 v) t))
      · rw [if_neg (fun t => ho t.2.2), Nat.add_zero] at t
        rw [if_neg ho]
        exact br_t rfl (nm_r (nI_1 v) t)
  have outer : ∀ (d u : Nat) (tk p : Int32) (a1 a2 a3 a4 a5 a6 a7 a8 a9 : Nat → Int32), u + d = n → fp_P n c b M a1 a2 → wX_room_14 post (nI k) (d + 1) (nI (fp_to n M k u)) (nI u) (nI n) (nI c) tk p a1 a2 a3 a4 a5 a6 a7 a8 a9 := by
    intro d
    induction d with
    | zero =>
      intro u tk p a1 a2 a3 a4 a5 a6 a7 a8 a9 hu hP
      have hu' : u = n := by omega
      have t : fp_to n M k u = fp_to n M k 6 := by
        rw [hu', ← fp_to_hi (6 - n), show n + (6 - n) = 6 by omega]
      rw [t]
      exact pk_le n u (fun _ => H tk p a1 a2 a3 a4 a5 a6 a7 a8 a9 hP) (fun z => absurd z (by omega))
    | succ d ih =>
      intro u tk p a1 a2 a3 a4 a5 a6 a7 a8 a9 hu hP
      refine pk_le n u (fun z => absurd z (by omega)) (fun _ => nm_r (nI_1 u) ⟨n - (u + 1) + 1, ?_⟩)
      have t := inner (wX_room_14 post (nI k) (d + 1)) u (fp_to n M k u) (by omega) (fun tk p a1 a2 a3 a4 a5 a6 a7 a8 a9 hP => by
        have t2 := ih (u + 1) tk p a1 a2 a3 a4 a5 a6 a7 a8 a9 (by omega) hP
        rw [fp_to_s] at t2
        have t3 : fp_rw n M k u 6 = fp_rw n M k u n := by
          rw [← fp_rw_hi (6 - n), show n + (6 - n) = 6 by omega]
        rw [t3] at t2
        exact t2) (n - (u + 1)) (u + 1) tk p a1 a2 a3 a4 a5 a6 a7 a8 a9 (by omega) (by omega) hP
      rw [fp_rw_lo (u + 1) (Nat.le_refl _), Nat.add_zero] at t
      exact t
  unfold wpX_room
  dsimp only
  exact fp_badC hk (br_t rfl ⟨n + 1, outer n 0 tk pv a1 a2 a3 a4 a5 a6 a7 a8 a9 (by omega) hP⟩)
theorem fp_between {post : Int32 → Prop} {n c : Nat} {b M : Nat → Nat} {tk pv : Int32} {a1 a2 a3 a4 a5 a6 a7 a8 a9 : Nat → Int32}
    (hP : fp_P n c b M a1 a2) (H : post (nI (M 0))) : wpX_between post (nI n, nI c, tk, pv, a1, a2, a3, a4, a5, a6, a7, a8, a9) 1 0 := by
  obtain ⟨p1, p2, p3, p4, p5⟩ := hP
  have key : ∀ (d e : Nat), e + d = c → wX_between_16 post 1 0 (nI n) (nI c) tk pv a1 a2 a3 a4 a5 a6 a7 a8 a9 (d + 1) (nI (fp_ct b (fun _ => true) e 0)) (nI e) := by
    intro d
    induction d with
    | zero =>
      intro e he
      have he' : e = c := by omega
      rw [he', p5 0]
      exact pk_le c c (fun _ => H) (fun z => absurd z (by omega))
    | succ d ih =>
      intro e he
      obtain ⟨q1, q2, q3⟩ := p4 e (by omega)
      have t := ih (e + 1) (by omega)
      have r47 : wX_between_47 post (wX_between_16 post 1 0 (nI n) (nI c) tk pv a1 a2 a3 a4 a5 a6 a7 a8 a9 (d + 1)) 1 0 (nI (fp_ct b (fun _ => true) e 0)) (nI e) (nI n) (nI c) tk pv a1 a2 a3 a4 a5 a6 a7 a8 a9 := by
        unfold wX_between_47
        rw [nI_clamp (show e < 2 ^ 31 by omega), q1, q2]
        refine ⟨pk_in e 17 (by omega), pk_eq (b e) 0 (fun z => ⟨pk_in e 17 (by omega), pk_eq (b e + 1) 1 (fun _ => ?_) (fun y => absurd y (by omega))⟩) (fun z => ?_)⟩
        · rw [fp_ct_y (T := fun _ => true) rfl z] at t
          exact nm_r (nI_1 _) (nm_r (nI_1 e) t)
        · rw [fp_ct_n (fun y => z y.2)] at t
          exact nm_r (nI_1 e) t
      refine pk_le c e (fun z => absurd z (by omega)) (fun _ => ⟨pk_in e 17 (by omega), ?_⟩)
      rw [nI_clamp (show e < 2 ^ 31 by omega), q1, q2]
      exact pk_eq (b e) 1 (fun z => ⟨pk_in e 17 (by omega), pk_eq (b e + 1) 0 (fun y => absurd y (by omega)) (fun _ => r47)⟩) (fun _ => r47)
  unfold wpX_between
  dsimp only
  exact fp_badP (u := 1) (v := 0) p2 (by omega) (by omega) (by omega) (br_t rfl ⟨c + 1, key c 0 (by omega)⟩)
theorem fp_edge {post : Int32 → St2 → Prop} {n c i : Nat} {b M : Nat → Nat} {tk pv : Int32} {a1 a2 a3 a4 a5 a6 a7 a8 a9 : Nat → Int32}
    (hP : fp_P n c b M a1 a2) (hi : i + 1 < n) (hc : c < 15)
    (H : ∀ (r : Int32) (b' : Nat → Nat) (a1 a2 : Nat → Int32), fp_P n (c + 1) b' (fun j => if j = i then M j + 1 else M j) a1 a2 → post r (nI n, nI (c + 1), tk, pv, a1, a2, a3, a4, a5, a6, a7, a8, a9)) :
    wpX_edge post (nI n, nI c, tk, pv, a1, a2, a3, a4, a5, a6, a7, a8, a9) (nI i) (nI (i + 1)) := by
  obtain ⟨p1, p2, p3, p4, p5⟩ := hP
  have hP' : fp_P n (c + 1) (fun e => if e = c then i else b e) (fun j => if j = i then M j + 1 else M j) (upd a1 c (nI i)) (upd a2 c (nI (i + 1))) := by
    refine ⟨p1, p2, by omega, fun e he => ?_, fun j => ?_⟩
    · show upd a1 c (nI i) e = nI (if e = c then i else b e) ∧ upd a2 c (nI (i + 1)) e = nI ((if e = c then i else b e) + 1) ∧ (if e = c then i else b e) + 1 < n
      by_cases z : e = c
      · subst z
        rw [if_pos rfl, pk_us, pk_us]
        exact ⟨rfl, rfl, hi⟩
      · rw [if_neg z, pk_un z, pk_un z]
        exact p4 e (by omega)
    · have t : fp_ct (fun e => if e = c then i else b e) (fun _ => true) c j = M j := by
        rw [← p5 j]
        exact fp_ct_congrb c (fun e he => if_neg (by omega))
      rw [fp_ct_s, t]
      show (M j + if true = true ∧ (if c = c then i else b c) = j then 1 else 0) = if j = i then M j + 1 else M j
      rw [if_pos (rfl : c = c)]
      by_cases z : j = i
      · rw [if_pos z, if_pos ⟨rfl, z.symm⟩]
      · rw [if_neg z, if_neg (fun y => z y.2.symm), Nat.add_zero]
  unfold wpX_edge
  dsimp only
  refine fp_badP p2 (by omega) hi (by omega) (br_t rfl (pk_eq c 16 (fun z => absurd z (by omega)) (fun _ => ⟨pk_in c 17 (by omega), ?_⟩)))
  rw [nI_clamp (show c < 2 ^ 31 by omega)]
  exact nm_e ⟨pk_in c 17 (by omega), nm_e (nm_r (nI_1 c) (H _ _ _ _ hP'))⟩
end
section
/-- the edges of bundle i that the script asks for -/
def fp_m (x0 : Int32) (i : Nat) : Nat := (x0 >>> ((2 * nI i) &&& 31)).toBitVec.toNat % 2 ^ 2
theorem fp_m_eq (x0 : Int32) (i : Nat) : (x0 >>> ((2 * nI i) &&& 31)) &&& 3 = nI (fp_m x0 i) := pk_and _ 2 (by decide)
theorem fp_m_lt (x0 : Int32) (i : Nat) : fp_m x0 i < 4 := Nat.mod_lt _ (by decide)
theorem fp_m_0 (x0 : Int32) : x0 &&& 3 = nI (fp_m x0 0) := by
  have t := fp_m_eq x0 0
  have e : (2 * nI 0 : Int32) = 0 := by decide
  rw [e, sb_shr0] at t
  exact t
/-- the bundles below i, the others 0; the others 3 -/
def fp_M (n : Nat) (m : Nat → Nat) (i : Nat) : Nat → Nat := fun j => if j < i ∧ j + 1 < n then m j else 0
def fp_L (n : Nat) (m : Nat → Nat) (i : Nat) : Nat → Nat := fun j => if j < i ∧ j + 1 < n then m j else 3
def fp_mx (f : Nat → Nat) : Nat := max (max (max (max (f 0) (f 1)) (f 2)) (f 3)) (f 4)
def fp_mi (f : Nat → Nat) : Nat := min (min (min (min (f 0) (f 1)) (f 2)) (f 3)) (f 4)
theorem fp_mx_up {f g : Nat → Nat} {b : Nat} (hb : b < 5) (h : ∀ i, i ≠ b → g i = f i) (h0 : f b = 0) : fp_mx g = max (fp_mx f) (g b) := by
  unfold fp_mx
  rcases fp_5 hb with e | e | e | e | e
  · subst e
    have k1 := h 1 (by omega)
    have k2 := h 2 (by omega)
    have k3 := h 3 (by omega)
    have k4 := h 4 (by omega)
    omega
  · subst e
    have k0 := h 0 (by omega)
    have k2 := h 2 (by omega)
    have k3 := h 3 (by omega)
    have k4 := h 4 (by omega)
    omega
  · subst e
    have k0 := h 0 (by omega)
    have k1 := h 1 (by omega)
    have k3 := h 3 (by omega)
    have k4 := h 4 (by omega)
    omega
  · subst e
    have k0 := h 0 (by omega)
    have k1 := h 1 (by omega)
    have k2 := h 2 (by omega)
    have k4 := h 4 (by omega)
    omega
  · subst e
    have k0 := h 0 (by omega)
    have k1 := h 1 (by omega)
    have k2 := h 2 (by omega)
    have k3 := h 3 (by omega)
    omega
theorem fp_mi_up {f g : Nat → Nat} {b : Nat} (hb : b < 5) (h : ∀ i, i ≠ b → g i = f i) (h0 : f b = 3) (h1 : g b ≤ 3) : fp_mi g = min (fp_mi f) (g b) := by
  unfold fp_mi
  rcases fp_5 hb with e | e | e | e | e
  · subst e
    have k1 := h 1 (by omega)
    have k2 := h 2 (by omega)
    have k3 := h 3 (by omega)
    have k4 := h 4 (by omega)
    omega
  · subst e
    have k0 := h 0 (by omega)
    have k2 := h 2 (by omega)
    have k3 := h 3 (by omega)
    have k4 := h 4 (by omega)
    omega
  · subst e
    have k0 := h 0 (by omega)
    have k1 := h 1 (by omega)
    have k3 := h 3 (by omega)
    have k4 := h 4 (by omega)
    omega
  · subst e
    have k0 := h 0 (by omega)
    have k1 := h 1 (by omega)
    have k2 := h 2 (by omega)
    have k4 := h 4 (by omega)
    omega
  · subst e
    have k0 := h 0 (by omega)
    have k1 := h 1 (by omega)
    have k2 := h 2 (by omega)
    have k3 := h 3 (by omega)
    omega
theorem fp_M_at {n i : Nat} {m : Nat → Nat} : fp_M n m i i = 0 := if_neg (fun t => absurd t.1 (Nat.lt_irrefl _))
theorem fp_M_new {n i : Nat} {m : Nat → Nat} (h : i + 1 < n) : fp_M n m (i + 1) i = m i := if_pos ⟨Nat.lt_succ_self _, h⟩
theorem fp_M_old {n i j : Nat} {m : Nat → Nat} (h : j ≠ i) : fp_M n m (i + 1) j = fp_M n m i j := fp_ifc ⟨fun t => ⟨by omega, t.2⟩, fun t => ⟨by omega, t.2⟩⟩
theorem fp_M_skip {n i : Nat} {m : Nat → Nat} (h : ¬ i + 1 < n) : fp_M n m (i + 1) = fp_M n m i := by
  funext j
  by_cases z : j = i
  · subst z
    rw [fp_M_at]
    exact if_neg (fun t => h t.2)
  · exact fp_M_old z
theorem fp_M_0 {n : Nat} {m : Nat → Nat} : fp_M n m 0 = fun _ => 0 := by
  funext j
  exact if_neg (fun t => absurd t.1 (Nat.not_lt_zero _))
theorem fp_M_le {n i j : Nat} {m : Nat → Nat} (h : ∀ j, m j < 4) : fp_M n m i j ≤ 3 := by
  unfold fp_M
  have := h j
  split <;> omega
theorem fp_L_at {n i : Nat} {m : Nat → Nat} : fp_L n m i i = 3 := if_neg (fun t => absurd t.1 (Nat.lt_irrefl _))
theorem fp_L_new {n i : Nat} {m : Nat → Nat} (h : i + 1 < n) : fp_L n m (i + 1) i = m i := if_pos ⟨Nat.lt_succ_self _, h⟩
theorem fp_L_old {n i j : Nat} {m : Nat → Nat} (h : j ≠ i) : fp_L n m (i + 1) j = fp_L n m i j := fp_ifc ⟨fun t => ⟨by omega, t.2⟩, fun t => ⟨by omega, t.2⟩⟩
theorem fp_L_skip {n i : Nat} {m : Nat → Nat} (h : ¬ i + 1 < n) : fp_L n m (i + 1) = fp_L n m i := by
  funext j
  by_cases z : j = i
  · subst z
    rw [fp_L_at]
    exact if_neg (fun t => h t.2)
  · exact fp_L_old z
theorem fp_L_0 {n : Nat} {m : Nat → Nat} : fp_L n m 0 = fun _ => 3 := by
  funext j
  exact if_neg (fun t => absurd t.1 (Nat.not_lt_zero _))
theorem fp_L_le {n i j : Nat} {m : Nat → Nat} (h : ∀ j, m j < 4) : fp_L n m i j ≤ 3 := by
  unfold fp_L
  have := h j
  split <;> omega
theorem fp_M_in {n i j : Nat} {m : Nat → Nat} (h1 : j < i) (h2 : j + 1 < n) : fp_M n m i j = m j := if_pos ⟨h1, h2⟩
theorem fp_st_sm {n i : Nat} {m : Nat → Nat} (hi : i < 5) (h : i + 1 < n) : fp_sm (fp_M n m (i + 1)) = fp_sm (fp_M n m i) + m i :=
  fp_sm_up hi (fun j hj => fp_M_old hj) (by rw [fp_M_new h, fp_M_at, Nat.zero_add])
theorem fp_st_mn {n i k : Nat} {m : Nat → Nat} (hi : i < 5) (h : i + 1 < n) : fp_sm (fun j => min (fp_M n m (i + 1) j) k) = fp_sm (fun j => min (fp_M n m i j) k) + min (m i) k := by
  refine fp_sm_up hi (fun j hj => ?_) ?_
  · show min (fp_M n m (i + 1) j) k = min (fp_M n m i j) k
    rw [fp_M_old hj]
  · show min (fp_M n m (i + 1) i) k = min (fp_M n m i i) k + min (m i) k
    rw [fp_M_new h, fp_M_at, Nat.zero_min, Nat.zero_add]
theorem fp_st_fm {n i k : Nat} {m : Nat → Nat} (hi : i < 5) (h : i + 1 < n) : fp_sm (fun j => if fp_M n m (i + 1) j ≤ k then fp_M n m (i + 1) j else 0) = fp_sm (fun j => if fp_M n m i j ≤ k then fp_M n m i j else 0) + if m i ≤ k then m i else 0 := by
  refine fp_sm_up hi (fun j hj => ?_) ?_
  · show (if fp_M n m (i + 1) j ≤ k then fp_M n m (i + 1) j else 0) = if fp_M n m i j ≤ k then fp_M n m i j else 0
    rw [fp_M_old hj]
  · show (if fp_M n m (i + 1) i ≤ k then fp_M n m (i + 1) i else 0) = (if fp_M n m i i ≤ k then fp_M n m i i else 0) + if m i ≤ k then m i else 0
    rw [fp_M_new h, fp_M_at, if_pos (Nat.zero_le k), Nat.zero_add]
theorem fp_st_mx {n i : Nat} {m : Nat → Nat} (hi : i < 5) (h : i + 1 < n) : fp_mx (fp_M n m (i + 1)) = max (fp_mx (fp_M n m i)) (m i) := by
  have t := fp_mx_up (f := fp_M n m i) (g := fp_M n m (i + 1)) hi (fun j hj => fp_M_old hj) fp_M_at
  rw [fp_M_new h] at t
  exact t
theorem fp_st_mi {n i : Nat} {m : Nat → Nat} (hm : ∀ j, m j < 4) (hi : i < 5) (h : i + 1 < n) : fp_mi (fp_L n m (i + 1)) = min (fp_mi (fp_L n m i)) (m i) := by
  have t := fp_mi_up (f := fp_L n m i) (g := fp_L n m (i + 1)) hi (fun j hj => fp_L_old hj) fp_L_at (fp_L_le hm)
  rw [fp_L_new h] at t
  exact t
theorem fp_hmx (f : Nat → Nat) (k : Nat) : fp_sm (fun i => min (f i) k) = fp_sm f ↔ fp_mx f ≤ k := by
  show min (f 0) k + min (f 1) k + min (f 2) k + min (f 3) k + min (f 4) k = f 0 + f 1 + f 2 + f 3 + f 4 ↔ max (max (max (max (f 0) (f 1)) (f 2)) (f 3)) (f 4) ≤ k
  constructor <;> intro h <;> omega
theorem fp_mx3 {f : Nat → Nat} (h : ∀ i, f i ≤ 3) : fp_mx f ≤ 3 := by
  have h0 := h 0
  have h1 := h 1
  have h2 := h 2
  have h3 := h 3
  have h4 := h 4
  unfold fp_mx
  omega
theorem fp_mi3 {f : Nat → Nat} (h : ∀ i, f i ≤ 3) : fp_mi f ≤ 3 := by
  have h0 := h 0
  unfold fp_mi
  omega
theorem fp_hle {n : Nat} {m : Nat → Nat} (hm : ∀ j, m j < 4) (h2 : 2 ≤ n) (h6 : n ≤ 6) (k : Nat) (hk : 1 ≤ k) : fp_sm (fun i => min (fp_M n m 5 i) k) = k * (n - 1) ↔ k ≤ fp_mi (fp_L n m 5) := by
  have h0 := hm 0
  have h1 := hm 1
  have h2' := hm 2
  have h3 := hm 3
  have h4 := hm 4
  have hn : n = 2 ∨ n = 3 ∨ n = 4 ∨ n = 5 ∨ n = 6 := by omega
  rcases hn with e | e | e | e | e
  · subst e
    show min (m 0) k + min 0 k + min 0 k + min 0 k + min 0 k = k * 1 ↔ k ≤ min (min (min (min (m 0) 3) 3) 3) 3
    constructor <;> intro h <;> omega
  · subst e
    show min (m 0) k + min (m 1) k + min 0 k + min 0 k + min 0 k = k * 2 ↔ k ≤ min (min (min (min (m 0) (m 1)) 3) 3) 3
    constructor <;> intro h <;> omega
  · subst e
    show min (m 0) k + min (m 1) k + min (m 2) k + min 0 k + min 0 k = k * 3 ↔ k ≤ min (min (min (min (m 0) (m 1)) (m 2)) 3) 3
    constructor <;> intro h <;> omega
  · subst e
    show min (m 0) k + min (m 1) k + min (m 2) k + min (m 3) k + min 0 k = k * 4 ↔ k ≤ min (min (min (min (m 0) (m 1)) (m 2)) (m 3)) 3
    constructor <;> intro h <;> omega
  · subst e
    show min (m 0) k + min (m 1) k + min (m 2) k + min (m 3) k + min (m 4) k = k * 5 ↔ k ≤ min (min (min (min (m 0) (m 1)) (m 2)) (m 3)) (m 4)
    constructor <;> intro h <;> omega
theorem fp_P_c {n c : Nat} {b M : Nat → Nat} {a1 a2 : Nat → Int32} (hP : fp_P n c b M a1 a2) : c = fp_sm M := by
  obtain ⟨p1, p2, p3, p4, p5⟩ := hP
  have e1 : ∀ c, fp_tn (fun _ => true) c = c := by
    intro c
    induction c with
    | zero => rfl
    | succ c ih => rw [fp_tn_s, ih, if_pos rfl]
  have e2 := fp_tn_sm (b := b) (T := fun _ => true) c (fun e he _ => by
    have t := (p4 e he).2.2
    omega)
  rw [e1] at e2
  rw [e2]
  exact fp_sm_eq (fun i _ => p5 i)
theorem fp_P_congr {n c : Nat} {b M M' : Nat → Nat} {a1 a2 : Nat → Int32} (h : ∀ j, M j = M' j) (hP : fp_P n c b M a1 a2) : fp_P n c b M' a1 a2 :=
  ⟨hP.1, hP.2.1, hP.2.2.1, hP.2.2.2.1, fun i => (hP.2.2.2.2 i).trans (h i)⟩
theorem fp_sm15 {f : Nat → Nat} (h : ∀ i, f i ≤ 3) : fp_sm f ≤ 15 := by
  have h0 := h 0
  have h1 := h 1
  have h2 := h 2
  have h3 := h 3
  have h4 := h 4
  unfold fp_sm
  omega
theorem fp_rw_congr {n k u : Nat} {M m : Nat → Nat} (h : ∀ i, i + 1 < n → M i = m i) : ∀ v, fp_rw n M k u v = fp_rw n m k u v := by
  intro v
  induction v with
  | zero => rfl
  | succ v ih =>
    rw [fp_rw_s, fp_rw_s, ih]
    congr 1
    refine fp_ifc ⟨fun t => ?_, fun t => ?_⟩
    · refine ⟨t.1, t.2.1, ?_⟩
      rw [← fp_op_congr v (fun i hi => h i (by have := t.2.1; omega))]
      exact t.2.2
    · refine ⟨t.1, t.2.1, ?_⟩
      rw [fp_op_congr v (fun i hi => h i (by have := t.2.1; omega))]
      exact t.2.2
theorem fp_to_congr {n k : Nat} {M m : Nat → Nat} (h : ∀ i, i + 1 < n → M i = m i) : ∀ u, fp_to n M k u = fp_to n m k u := by
  intro u
  induction u with
  | zero => rfl
  | succ u ih => rw [fp_to_s, fp_to_s, ih, fp_rw_congr h]
end
section
theorem fp_edgesE {post : Int32 → Prop} {fn fc tk p : Int32} {a1 a2 a3 a4 a5 a6 a7 a8 a9 : Nat → Int32} (H : post fc) : wpX_edges post (fn, fc, tk, p, a1, a2, a3, a4, a5, a6, a7, a8, a9) := H
theorem fp_313 {post : Int32 → St0 → Prop} {mc ms kc ks : Nat} {n c k : Nat} {x0 tk p : Int32} {b : Nat → Nat} {a1 a2 a3 a4 a5 a6 a7 a8 a9 : Nat → Int32}
    (hk : k ≤ 5) (hP : fp_P n c b (fp_M n (fp_m x0) 5) a1 a2) (H : post 1 ()) :
    wL_lawOf_313 post mc ms x0 (nI k) (nI (fp_sm (fp_M n (fp_m x0) 5))) (nI (fp_sm (fun i => min (fp_M n (fp_m x0) 5 i) k))) (nI (fp_mx (fp_M n (fp_m x0) 5))) (nI (fp_mi (fp_L n (fp_m x0) 5))) (nI (fp_sm (fun i => if fp_M n (fp_m x0) 5 i ≤ k then fp_M n (fp_m x0) 5 i else 0))) (nI n - nI (fp_sm (fun i => min (fp_M n (fp_m x0) 5 i) 1))) (nI (fp_to n (fp_M n (fp_m x0) 5) k 6)) (if fp_op (fp_M n (fp_m x0) 5) k 0 1 = true then 1 else 0) kc ks (nI n) (nI c) tk p a1 a2 a3 a4 a5 a6 a7 a8 a9 := by
  have hc := fp_P_c hP
  have hmx : ∀ k, fp_sm (fun i => min (fp_M n (fp_m x0) 5 i) k) = c ↔ fp_mx (fp_M n (fp_m x0) 5) ≤ k := by
    intro k
    rw [hc]
    exact fp_hmx _ k
  have h2 : 2 ≤ n := hP.1
  unfold wL_lawOf_313
  refine fp_edgesE (br_t (congrArg nI hc) ?_)
  refine fp_hold hP (by omega) (fun tk p a3 a4 a5 a6 a7 a8 a9 => br_t rfl ?_)
  refine fp_needed hP hmx (fp_mx3 (fun i => fp_M_le (fp_m_lt x0))) (fun tk p a3 a4 a5 a6 a7 a8 a9 => br_t rfl ?_)
  refine fp_trees hP (fp_hle (fp_m_lt x0) hP.1 hP.2.1) (fp_mi3 (fun i => fp_L_le (fp_m_lt x0))) (fun tk p a3 a4 a5 a6 a7 a8 a9 => br_t rfl ?_)
  refine fp_firm hP (by omega) (fun tk p a3 a4 a5 a6 a7 a8 a9 => br_t rfl ?_)
  refine fp_parts hP (fun tk p a3 a4 a5 a6 a7 a8 a9 => br_t rfl ?_)
  refine fp_room hP (by omega) (fun tk p a1 a2 a3 a4 a5 a6 a7 a8 a9 hP => br_t rfl ?_)
  refine fp_welcome (u := 0) (v := 1) hP (by omega) (by omega) (by omega) (fun tk p a1 a2 a3 a4 a5 a6 a7 a8 a9 hP => br_t rfl ?_)
  refine fp_between hP (br_t ?_ H)
  rw [fp_m_0, fp_M_in (by omega) (by omega)]
theorem fp_264 {post : Int32 → St0 → Prop} {mc ms kc ks : Nat} {J212 : Int32 → Int32 → Prop} {J228 : Int32 → Int32 → Int32 → Prop} {n v s : Nat} {o : Bool} {x0 x4 x6 x7 x8 x9 x10 x11 x13 fn fc tk p : Int32} {a1 a2 a3 a4 a5 a6 a7 a8 a9 : Nat → Int32} (hn : n ≤ 6) (hv : v ≤ 6)
    (H : J228 (nI (s + if v < n ∧ o = true then 1 else 0)) (if o = true then 1 else 0) (nI (v + 1))) :
    wL_lawOf_264 post mc ms J212 J228 x0 (nI n) x4 x6 x7 x8 x9 x10 x11 (nI s) x13 (nI v) (if o = true then 1 else 0) kc ks fn fc tk p a1 a2 a3 a4 a5 a6 a7 a8 a9 := by
  unfold wL_lawOf_264
  by_cases ho : o = true
  · rw [if_pos ho] at H
    rw [if_pos ho]
    refine pk_le n v (fun z => ?_) (fun z => br_f fp_10 ?_)
    · rw [if_neg (fun t => absurd t.1 (by omega)), Nat.add_zero] at H
      exact nm_r (nI_1 v) H
    · rw [if_pos ⟨z, ho⟩] at H
      exact nm_r (nI_1 s) (nm_r (nI_1 v) H)
  · rw [if_neg ho] at H
    rw [if_neg ho]
    rw [if_neg (fun t => ho t.2), Nat.add_zero] at H
    exact pk_le n v (fun z => nm_r (nI_1 v) H) (fun z => br_t rfl (nm_r (nI_1 v) H))
theorem fp_228 {post : Int32 → St0 → Prop} {mc ms kc ks : Nat} {J212 : Int32 → Int32 → Prop} {n k u s : Nat} {x0 x6 x7 x8 x9 x10 x11 fn fc tk p : Int32} {a1 a2 a3 a4 a5 a6 a7 a8 a9 : Nat → Int32} (hn : n ≤ 6) (hk : k ≤ 5) (hu : u < 6)
    (H : J212 (nI (s + fp_rw n (fp_m x0) k u 6)) (nI (u + 1))) :
    ∀ d w : Nat, w + 1 + d = 6 → u ≤ w → wL_lawOf_228 post mc ms J212 x0 (nI n) (nI k) x6 x7 x8 x9 x10 x11 (nI u) kc ks fn fc tk p a1 a2 a3 a4 a5 a6 a7 a8 a9 (d + 1) (nI (s + fp_rw n (fp_m x0) k u (w + 1))) (if fp_op (fp_m x0) k u w = true then 1 else 0) (nI (w + 1)) := by
  intro d
  induction d with
  | zero =>
    intro w hw huw
    have hw' : w = 5 := by omega
    subst hw'
    exact pk_le 6 6 (fun _ => nm_r (nI_1 u) H) (fun z => absurd z (by omega))
  | succ d ih =>
    intro w hw huw
    have hm4 := fp_m_lt x0 w
    have t := ih (w + 1) (by omega) (by omega)
    have e1 : fp_rw n (fp_m x0) k u (w + 1 + 1) = fp_rw n (fp_m x0) k u (w + 1) + if w + 1 < n ∧ fp_op (fp_m x0) k u (w + 1) = true then 1 else 0 := by
      rw [fp_rw_s]
      congr 1
      exact fp_ifc ⟨fun t => t.2, fun t => ⟨by omega, t⟩⟩
    rw [e1, ← Nat.add_assoc] at t
    have r := fp_264 (post := post) (mc := mc) (ms := ms) (kc := kc) (ks := ks) (J212 := J212) (x0 := x0) (x4 := nI k) (x6 := x6) (x7 := x7) (x8 := x8) (x9 := x9) (x10 := x10) (x11 := x11) (x13 := nI u) (fn := fn) (fc := fc) (tk := tk) (p := p) (a1 := a1) (a2 := a2) (a3 := a3) (a4 := a4) (a5 := a5) (a6 := a6) (a7 := a7) (a8 := a8) (a9 := a9) hn (by omega) t
    refine pk_le 6 (w + 1) (fun z => absurd z (by omega)) (fun _ => ?_)
    rw [nI_pred w]
    refine nm_r (fp_m_eq x0 w) ?_
    by_cases ho : fp_op (fp_m x0) k u w = true
    · have ho1 : fp_op (fp_m x0) k u (w + 1) = true := by rw [fp_op_s, ho, Bool.true_or]
      rw [if_pos ho1] at r
      rw [if_pos ho]
      exact br_f fp_10 r
    · rw [if_neg ho]
      refine br_t rfl (pk_le k (fp_m x0 w) (fun z => ?_) (fun z => ?_))
      · have ho1 : ¬ fp_op (fp_m x0) k u (w + 1) = true := by
          rw [fp_op_s, Bool.or_eq_true]
          exact fun y => y.elim ho (fun y => absurd (of_decide_eq_true y).2 (by omega))
        rw [if_neg ho1] at r
        exact r
      · have ho1 : fp_op (fp_m x0) k u (w + 1) = true := by
          rw [fp_op_s, decide_eq_true (show u ≤ w ∧ fp_m x0 w < k from ⟨huw, z⟩), Bool.or_true]
        rw [if_pos ho1] at r
        exact r
theorem fp_212 {post : Int32 → St0 → Prop} {mc ms kc ks : Nat} {n k : Nat} {x0 x6 x7 x8 x9 x10 x11 fn fc tk p : Int32} {a1 a2 a3 a4 a5 a6 a7 a8 a9 : Nat → Int32} (hn2 : 2 ≤ n) (hn : n ≤ 6) (hk : k ≤ 5)
    (H : wL_lawOf_313 post mc ms x0 (nI k) x6 x7 x8 x9 x10 x11 (nI (fp_to n (fp_M n (fp_m x0) 5) k 6)) (if fp_op (fp_M n (fp_m x0) 5) k 0 1 = true then 1 else 0) kc ks fn fc tk p a1 a2 a3 a4 a5 a6 a7 a8 a9) :
    ∃ fu, wL_lawOf_212 post mc ms x0 (nI n) (nI k) x6 x7 x8 x9 x10 x11 kc ks fn fc tk p a1 a2 a3 a4 a5 a6 a7 a8 a9 fu 0 0 := by
  have hM : ∀ i, i + 1 < n → fp_M n (fp_m x0) 5 i = fp_m x0 i := fun i hi => fp_M_in (by omega) hi
  have key : ∀ d u : Nat, u + d = 6 → wL_lawOf_212 post mc ms x0 (nI n) (nI k) x6 x7 x8 x9 x10 x11 kc ks fn fc tk p a1 a2 a3 a4 a5 a6 a7 a8 a9 (d + 1) (nI (fp_to n (fp_m x0) k u)) (nI u) := by
    intro d
    induction d with
    | zero =>
      intro u hu
      have hu' : u = 6 := by omega
      subst hu'
      refine pk_le 6 6 (fun _ => ?_) (fun z => absurd z (by omega))
      rw [fp_m_0, ← fp_to_congr hM]
      have hm4 := fp_m_lt x0 0
      have hop : fp_op (fp_M n (fp_m x0) 5) k 0 1 = true ↔ fp_m x0 0 < k := by
        rw [fp_op_iff]
        constructor
        · rintro ⟨i, i1, i2, i3⟩
          have hi : i = 0 := by omega
          subst hi
          rw [hM 0 (by omega)] at i3
          exact i3
        · intro t
          exact ⟨0, by omega, by omega, by rw [hM 0 (by omega)]; exact t⟩
      refine pk_le k (fp_m x0 0) (fun z => ?_) (fun z => ?_)
      · rw [if_neg (fun t => absurd (hop.mp t) (by omega))] at H
        exact H
      · rw [if_pos (hop.mpr z)] at H
        exact H
    | succ d ih =>
      intro u hu
      refine pk_le 6 u (fun z => absurd z (by omega)) (fun _ => nm_r (nI_1 u) ⟨5 - u + 1, ?_⟩)
      have t := ih (u + 1) (by omega)
      rw [fp_to_s] at t
      have r := fp_228 (post := post) (mc := mc) (ms := ms) (kc := kc) (ks := ks) (x6 := x6) (x7 := x7) (x8 := x8) (x9 := x9) (x10 := x10) (x11 := x11) (fn := fn) (fc := fc) (tk := tk) (p := p) (a1 := a1) (a2 := a2) (a3 := a3) (a4 := a4) (a5 := a5) (a6 := a6) (a7 := a7) (a8 := a8) (a9 := a9) hn hk (by omega) t (5 - u) u (by omega) (Nat.le_refl _)
      rw [fp_rw_lo (u + 1) (Nat.le_refl _), Nat.add_zero, fp_op_lo u (Nat.le_refl _), if_neg (by decide)] at r
      exact r
  exact ⟨7, key 6 0 rfl⟩
end
section
theorem fp_182 {post : Int32 → St0 → Prop} {mc ms kc ks : Nat} {J49 : Int32 → Int32 → Int32 → Int32 → Int32 → Int32 → Int32 → Int32 → Int32 → Int32 → Int32 → (Nat → Int32) → (Nat → Int32) → (Nat → Int32) → (Nat → Int32) → (Nat → Int32) → (Nat → Int32) → (Nat → Int32) → (Nat → Int32) → (Nat → Int32) → Prop} {m : Nat} {y : Int32} {x0 x3 x4 x6 x7 x8 x9 x12 z0 fn fc tk p : Int32} {a1 a2 a3 a4 a5 a6 a7 a8 a9 : Nat → Int32} (hm : m < 4)
    (H : J49 x6 x7 x8 x9 z0 (y - nI (min m 1)) (x12 + 1) fn fc tk p a1 a2 a3 a4 a5 a6 a7 a8 a9) :
    wL_lawOf_182 post mc ms J49 x0 x3 x4 x6 x7 x8 x9 y x12 (nI m) z0 kc ks fn fc tk p a1 a2 a3 a4 a5 a6 a7 a8 a9 := by
  unfold wL_lawOf_182
  refine pk_le m 0 (fun z => nm_e ?_) (fun z => nm_e (nm_e ?_))
  · have e : y - nI (min m 1) = y := by
      rw [show min m 1 = 0 by omega, nI_0, Int32.sub_zero]
    rw [e] at H
    exact H
  · rw [show min m 1 = 1 by omega] at H
    exact H
theorem fp_163 {post : Int32 → St0 → Prop} {mc ms kc ks : Nat} {J49 : Int32 → Int32 → Int32 → Int32 → Int32 → Int32 → Int32 → Int32 → Int32 → Int32 → Int32 → (Nat → Int32) → (Nat → Int32) → (Nat → Int32) → (Nat → Int32) → (Nat → Int32) → (Nat → Int32) → (Nat → Int32) → (Nat → Int32) → (Nat → Int32) → Prop} {m k s10 : Nat} {y : Int32} {x0 x3 x6 x7 x8 x12 z0 fn fc tk p : Int32} {a1 a2 a3 a4 a5 a6 a7 a8 a9 : Nat → Int32} (hm : m < 4) (hk : k ≤ 5)
    (H : J49 x6 x7 x8 z0 (nI (s10 + if m ≤ k then m else 0)) (y - nI (min m 1)) (x12 + 1) fn fc tk p a1 a2 a3 a4 a5 a6 a7 a8 a9) :
    wL_lawOf_163 post mc ms J49 x0 x3 (nI k) x6 x7 x8 (nI s10) y x12 (nI m) z0 kc ks fn fc tk p a1 a2 a3 a4 a5 a6 a7 a8 a9 := by
  unfold wL_lawOf_163
  refine pk_lt k m (fun z => fp_182 hm ?_) (fun z => fp_182 hm ?_)
  · rw [if_neg (by omega), Nat.add_zero] at H
    exact H
  · rw [if_pos z] at H
    rw [nI_add]
    exact H
theorem fp_147 {post : Int32 → St0 → Prop} {mc ms kc ks : Nat} {J49 : Int32 → Int32 → Int32 → Int32 → Int32 → Int32 → Int32 → Int32 → Int32 → Int32 → Int32 → (Nat → Int32) → (Nat → Int32) → (Nat → Int32) → (Nat → Int32) → (Nat → Int32) → (Nat → Int32) → (Nat → Int32) → (Nat → Int32) → (Nat → Int32) → Prop} {m k s9 s10 : Nat} {y : Int32} {x0 x3 x6 x7 x12 z0 fn fc tk p : Int32} {a1 a2 a3 a4 a5 a6 a7 a8 a9 : Nat → Int32} (hm : m < 4) (hk : k ≤ 5) (h9 : s9 ≤ 3)
    (H : J49 x6 x7 z0 (nI (min s9 m)) (nI (s10 + if m ≤ k then m else 0)) (y - nI (min m 1)) (x12 + 1) fn fc tk p a1 a2 a3 a4 a5 a6 a7 a8 a9) :
    wL_lawOf_147 post mc ms J49 x0 x3 (nI k) x6 x7 (nI s9) (nI s10) y x12 (nI m) z0 kc ks fn fc tk p a1 a2 a3 a4 a5 a6 a7 a8 a9 := by
  unfold wL_lawOf_147
  refine pk_le s9 m (fun z => fp_163 hm hk ?_) (fun z => fp_163 hm hk ?_)
  · rw [show min s9 m = s9 by omega] at H
    exact H
  · rw [show min s9 m = m by omega] at H
    exact H
theorem fp_130 {post : Int32 → St0 → Prop} {mc ms kc ks : Nat} {J49 : Int32 → Int32 → Int32 → Int32 → Int32 → Int32 → Int32 → Int32 → Int32 → Int32 → Int32 → (Nat → Int32) → (Nat → Int32) → (Nat → Int32) → (Nat → Int32) → (Nat → Int32) → (Nat → Int32) → (Nat → Int32) → (Nat → Int32) → (Nat → Int32) → Prop} {m k q s7 s8 s9 s10 : Nat} {y : Int32} {x0 x3 x6 x12 fn fc tk p : Int32} {a1 a2 a3 a4 a5 a6 a7 a8 a9 : Nat → Int32} (hm : m < 4) (hk : k ≤ 5) (h8 : s8 ≤ 3) (h9 : s9 ≤ 3)
    (H : J49 x6 (nI (s7 + q)) (nI (max s8 m)) (nI (min s9 m)) (nI (s10 + if m ≤ k then m else 0)) (y - nI (min m 1)) (x12 + 1) fn fc tk p a1 a2 a3 a4 a5 a6 a7 a8 a9) :
    wL_lawOf_130 post mc ms J49 x0 x3 (nI k) x6 (nI s8) (nI s9) (nI s10) y x12 (nI m) (nI q) (nI s7) kc ks fn fc tk p a1 a2 a3 a4 a5 a6 a7 a8 a9 := by
  unfold wL_lawOf_130
  refine nm_r (nI_add s7 q) (pk_le m s8 (fun z => fp_147 hm hk h9 ?_) (fun z => fp_147 hm hk h9 ?_))
  · rw [show max s8 m = s8 by omega] at H
    exact H
  · rw [show max s8 m = m by omega] at H
    exact H
theorem fp_76 {post : Int32 → St0 → Prop} {mc ms kc ks : Nat} {J49 : Int32 → Int32 → Int32 → Int32 → Int32 → Int32 → Int32 → Int32 → Int32 → Int32 → Int32 → (Nat → Int32) → (Nat → Int32) → (Nat → Int32) → (Nat → Int32) → (Nat → Int32) → (Nat → Int32) → (Nat → Int32) → (Nat → Int32) → (Nat → Int32) → Prop} {n k i s6 s7 s8 s9 s10 : Nat} {m : Nat → Nat} {y x0 : Int32} (hm : ∀ j, m j < 4) (hk : k ≤ 5) (h8 : s8 ≤ 3) (h9 : s9 ≤ 3) (hi : i < 5) (hin : i + 1 < n)
    (H : ∀ (c : Nat) (b : Nat → Nat) (tk p : Int32) (a1 a2 a3 a4 a5 a6 a7 a8 a9 : Nat → Int32), fp_P n c b (fp_M n m (i + 1)) a1 a2 → J49 (nI (s6 + m i)) (nI (s7 + min (m i) k)) (nI (max s8 (m i))) (nI (min s9 (m i))) (nI (s10 + if m i ≤ k then m i else 0)) (y - nI (min (m i) 1)) (nI (i + 1)) (nI n) (nI c) tk p a1 a2 a3 a4 a5 a6 a7 a8 a9) :
    ∀ (d j c : Nat) (b : Nat → Nat) (tk p : Int32) (a1 a2 a3 a4 a5 a6 a7 a8 a9 : Nat → Int32), j + d = 3 → fp_P n c b (fun t => if t = i then min j (m i) else fp_M n m i t) a1 a2 → wL_lawOf_76 post mc ms J49 x0 (nI n) (nI k) (nI s6) (nI s7) (nI s8) (nI s9) (nI s10) y (nI i) (nI (m i)) kc ks (d + 1) (nI j) (nI n) (nI c) tk p a1 a2 a3 a4 a5 a6 a7 a8 a9 := by
  have hmi := hm i
  intro d
  induction d with
  | zero =>
    intro j c b tk p a1 a2 a3 a4 a5 a6 a7 a8 a9 hj hP
    have hj' : j = 3 := by omega
    subst hj'
    have hP' : fp_P n c b (fp_M n m (i + 1)) a1 a2 := by
      refine fp_P_congr (fun t => ?_) hP
      show (if t = i then min 3 (m i) else fp_M n m i t) = fp_M n m (i + 1) t
      by_cases z : t = i
      · rw [if_pos z, z, fp_M_new hin]
        omega
      · rw [if_neg z, fp_M_old z]
    have h := H c b tk p a1 a2 a3 a4 a5 a6 a7 a8 a9 hP'
    refine pk_le 3 3 (fun _ => nm_r (nI_add s6 (m i)) ?_) (fun z => absurd z (by omega))
    refine pk_le k (m i) (fun z => fp_130 hmi hk h8 h9 ?_) (fun z => fp_130 hmi hk h8 h9 ?_)
    · rw [show min (m i) k = k by omega] at h
      rw [nI_1]
      exact h
    · rw [show min (m i) k = m i by omega] at h
      rw [nI_1]
      exact h
  | succ d ih =>
    intro j c b tk p a1 a2 a3 a4 a5 a6 a7 a8 a9 hj hP
    refine pk_le 3 j (fun z => absurd z (by omega)) (fun _ => ?_)
    refine pk_le (m i) j (fun z => nm_r (nI_1 j) (ih (j + 1) c b tk p a1 a2 a3 a4 a5 a6 a7 a8 a9 (by omega) ?_)) (fun z => ?_)
    · rw [show min (j + 1) (m i) = min j (m i) by omega]
      exact hP
    · rw [nI_1 i]
      have hM' : ∀ t, (if t = i then (if t = i then min j (m i) else fp_M n m i t) + 1 else if t = i then min j (m i) else fp_M n m i t) = if t = i then min (j + 1) (m i) else fp_M n m i t := by
        intro t
        by_cases y : t = i
        · rw [if_pos y, if_pos y, if_pos y]
          omega
        · rw [if_neg y, if_neg y, if_neg y]
      have hcc := fp_P_c hP
      have hup : fp_sm (fun t => if t = i then min (j + 1) (m i) else fp_M n m i t) = fp_sm (fun t => if t = i then min j (m i) else fp_M n m i t) + 1 := by
        refine fp_sm_up hi (fun t ht => ?_) ?_
        · show (if t = i then min (j + 1) (m i) else fp_M n m i t) = if t = i then min j (m i) else fp_M n m i t
          rw [if_neg ht, if_neg ht]
        · show (if i = i then min (j + 1) (m i) else fp_M n m i i) = (if i = i then min j (m i) else fp_M n m i i) + 1
          rw [if_pos rfl, if_pos rfl]
          omega
      have h15 : fp_sm (fun t => if t = i then min (j + 1) (m i) else fp_M n m i t) ≤ 15 := by
        refine fp_sm15 (fun t => ?_)
        show (if t = i then min (j + 1) (m i) else fp_M n m i t) ≤ 3
        by_cases y : t = i
        · rw [if_pos y]
          omega
        · rw [if_neg y]
          exact fp_M_le hm
      refine fp_edge hP hin (by omega) (fun r b' a1 a2 hP' => nm_r (nI_1 j) (ih (j + 1) (c + 1) b' tk p a1 a2 a3 a4 a5 a6 a7 a8 a9 (by omega) ?_))
      exact fp_P_congr hM' hP'
theorem fp_49 {post : Int32 → St0 → Prop} {mc ms kc ks : Nat} {n k : Nat} {x0 : Int32} (hn2 : 2 ≤ n) (hn : n ≤ 6) (hk : k ≤ 5) (H : post 1 ()) :
    ∀ (d i c : Nat) (b : Nat → Nat) (tk p : Int32) (a1 a2 a3 a4 a5 a6 a7 a8 a9 : Nat → Int32), i + d = 5 → fp_P n c b (fp_M n (fp_m x0) i) a1 a2 → wL_lawOf_49 post mc ms x0 (nI n) (nI k) kc ks (d + 1) (nI (fp_sm (fp_M n (fp_m x0) i))) (nI (fp_sm (fun j => min (fp_M n (fp_m x0) i j) k))) (nI (fp_mx (fp_M n (fp_m x0) i))) (nI (fp_mi (fp_L n (fp_m x0) i))) (nI (fp_sm (fun j => if fp_M n (fp_m x0) i j ≤ k then fp_M n (fp_m x0) i j else 0))) (nI n - nI (fp_sm (fun j => min (fp_M n (fp_m x0) i j) 1))) (nI i) (nI n) (nI c) tk p a1 a2 a3 a4 a5 a6 a7 a8 a9 := by
  have hm := fp_m_lt x0
  intro d
  induction d with
  | zero =>
    intro i c b tk p a1 a2 a3 a4 a5 a6 a7 a8 a9 hi hP
    have hi' : i = 5 := by omega
    subst hi'
    exact pk_le 5 5 (fun _ => fp_212 hn2 hn hk (fp_313 hk hP H)) (fun z => absurd z (by omega))
  | succ d ih =>
    intro i c b tk p a1 a2 a3 a4 a5 a6 a7 a8 a9 hi hP
    have en : nI n - 1 = nI (n - 1) := pk_sub (b := 1) (by omega)
    refine pk_le 5 i (fun z => absurd z (by omega)) (fun _ => nm_r (fp_m_eq x0 i) ?_)
    refine pk_le (n - 1) i (fun z => nm_r (nI_1 i) ?_) (fun z => ⟨4, ?_⟩) en rfl
    · have hs : ¬ i + 1 < n := by omega
      have t := ih (i + 1) c b tk p a1 a2 a3 a4 a5 a6 a7 a8 a9 (by omega)
      rw [fp_M_skip hs, fp_L_skip hs] at t
      exact t hP
    · have hin : i + 1 < n := by omega
      refine fp_76 (m := fp_m x0) hm hk (fp_mx3 (fun j => fp_M_le hm)) (fp_mi3 (fun j => fp_L_le hm)) (by omega) hin (fun c b tk p a1 a2 a3 a4 a5 a6 a7 a8 a9 hP' => ?_) 3 0 c b tk p a1 a2 a3 a4 a5 a6 a7 a8 a9 rfl (fp_P_congr (fun t => ?_) hP)
      · have t := ih (i + 1) c b tk p a1 a2 a3 a4 a5 a6 a7 a8 a9 (by omega) hP'
        have e11 : nI n - nI (fp_sm (fun j => min (fp_M n (fp_m x0) (i + 1) j) 1)) = nI n - nI (fp_sm (fun j => min (fp_M n (fp_m x0) i j) 1)) - nI (min (fp_m x0 i) 1) := by
          rw [fp_st_mn (by omega) hin, ← nI_add, Int32.sub_sub]
        rw [e11, fp_st_sm (by omega) hin, fp_st_mn (by omega) hin, fp_st_mx (by omega) hin, fp_st_mi hm (by omega) hin, fp_st_fm (by omega) hin] at t
        exact t
      · show fp_M n (fp_m x0) i t = if t = i then min 0 (fp_m x0 i) else fp_M n (fp_m x0) i t
        by_cases y : t = i
        · rw [if_pos y, y, fp_M_at, Nat.zero_min]
        · rw [if_neg y]
theorem fp_lawOf {post : Int32 → St0 → Prop} {x0 x1 x2 : Int32} (H : post 1 ()) : wpL_lawOf post 84 1328 () x0 x1 x2 := by
  obtain ⟨j1, hj1, e1⟩ := pk_andE x1 (m := 15) 4 (by decide)
  obtain ⟨j2, hj2, e2⟩ := pk_andE x2 (m := 15) 4 (by decide)
  have hn : 2 + ((x1 &&& 15) - (x1 &&& 15) / 5 * 5) = nI (2 + j1 % 5) := by
    rw [e1]
    have t : nI j1 - nI j1 / 5 * 5 = nI (j1 % 5) := pk_rem (d := 5) (by omega) (by omega) (by omega)
    rw [t]
    exact nI_add 2 (j1 % 5)
  have hk : (x2 &&& 15) - (x2 &&& 15) / 6 * 6 = nI (j2 % 6) := by
    rw [e2]
    exact pk_rem (d := 6) (by omega) (by omega) (by omega)
  have hn5 : j1 % 5 < 5 := Nat.mod_lt _ (by omega)
  have hk6 : j2 % 6 < 6 := Nat.mod_lt _ (by omega)
  generalize j1 % 5 = n0 at hn hn5
  generalize j2 % 6 = k at hk hk6
  have hP : fp_P (2 + n0) 0 (fun _ => 0) (fp_M (2 + n0) (fp_m x0) 0) (fun _ => 0) (fun _ => 0) := by
    refine ⟨by omega, by omega, by omega, fun e he => absurd he (Nat.not_lt_zero _), fun i => ?_⟩
    rw [fp_M_0]
    rfl
  have t := fp_49 (post := post) (mc := 84) (ms := 1328) (kc := 1 + 9) (ks := 13 + 123) (n := 2 + n0) (k := k) (x0 := x0) (by omega) (by omega) (by omega) H 5 0 0 (fun _ => 0) 0 0 (fun _ => 0) (fun _ => 0) (fun _ => 0) (fun _ => 0) (fun _ => 0) (fun _ => 0) (fun _ => 0) (fun _ => 0) (fun _ => 0) rfl hP
  have q1 : fp_sm (fun _ => 0) = 0 := rfl
  have q2 : fp_sm (fun _ => min 0 k) = 0 := by simp [fp_sm]
  have q3 : fp_mx (fun _ => 0) = 0 := rfl
  have q4 : fp_mi (fun _ => 3) = 3 := rfl
  have q5 : fp_sm (fun _ => if 0 ≤ k then 0 else 0) = 0 := by simp [fp_sm]
  have q6 : nI (2 + n0) - nI (fp_sm (fun _ => min 0 1)) = nI (2 + n0) := pk_sub (Nat.zero_le _)
  rw [fp_M_0, fp_L_0, q1, q2, q3, q4, q5, q6] at t
  unfold wpL_lawOf
  refine ⟨by decide, nm_r hn ⟨by decide, nm_r hk ⟨by omega, by omega, 9, 123, by omega, by omega, ?_⟩⟩⟩
  unfold wpX_init
  dsimp only
  refine ⟨by omega, by omega, by omega, by omega, by omega, by omega, by omega, by omega, by omega, by omega, by omega, by omega, by omega, by omega, by omega, by omega, by omega, by omega, ?_⟩
  refine pk_le 2 (2 + n0) (fun _ => ?_) (fun z => absurd z (by omega))
  unfold wX_init_85
  exact pk_le (2 + n0) 7 (fun _ => ⟨6, t⟩) (fun z => absurd z (by omega))
theorem fp_cell {post : Int32 → Prop} {L i : Nat} {xs : Nat → Int32} (hL : L ≤ 3) (hi : i < 3) (H : ∀ r, post r) : wpL_cellAt post L xs () (nI i) :=
  pk_le L i (fun _ => H 0) (fun z => ⟨pk_in i L z, H _⟩)
theorem i_vc (xs : Nat → Int32) (L : Nat) (hL : L ≤ 3) : wpL_law (fun r => r = 1) L xs := by
  unfold wpL_law
  refine fp_cell (i := 0) hL (by omega) (fun r1 => ?_)
  refine fp_cell (i := 1) hL (by omega) (fun r2 => ?_)
  refine fp_cell (i := 2) hL (by omega) (fun r3 => ?_)
  exact ⟨84, 1328, by omega, by omega, fp_lawOf rfl⟩
end
