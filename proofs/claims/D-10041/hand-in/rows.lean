section
/-! ===== the pure picture: n formulas; kd, lf, rt: kind (0 and, 1 or, 2 implies, 3 atom, 4 falsum), left, right. A set is a Nat by its bits ===== -/
/-- a formula (here h, its parts a, b) keeps to its connective -/
def sd_k1 (k : Nat) (h a b : Bool) : Bool := if k = 0 then h == (a && b) else if k = 1 then h == (a || b) else if k = 2 then (if h then !a || b else !b) else if k = 4 then !h else true
/-- truth of a formula: t of the atom, a and b of the parts -/
def sd_v1 (k : Nat) (t a b : Bool) : Bool := if k = 3 then t else if k = 0 then a && b else if k = 1 then a || b else if k = 2 then !a || b else false
/-- what a new root below two worlds (p, q: whether they have it) forces -/
def sd_f1 (k : Nat) (p q a b : Bool) : Bool := if k = 0 then a && b else if k = 1 then a || b else if k = 2 then p && q && (!a || b) else false
def sd_sub (s t : Nat) : Prop := ∀ i, s.testBit i = true → t.testBit i = true
def sd_keep (n : Nat) (kd lf rt : Nat → Nat) (s : Nat) : Prop := ∀ i, i < n → sd_k1 (kd i) (s.testBit i) (s.testBit (lf i)) (s.testBit (rt i)) = true
def sd_imp (n : Nat) (kd lf rt : Nat → Nat) (Q : Nat → Prop) (s : Nat) : Prop := ∀ i, i < n → kd i = 2 → s.testBit i = false → ∃ t, Q t ∧ sd_sub s t ∧ t.testBit (lf i) = true ∧ t.testBit (rt i) = false
/-- saturated sets: the greatest family whose members keep to their connectives and have a witness in the family for each implication that they lack -/
def sd_W (n : Nat) (kd lf rt : Nat → Nat) (s : Nat) : Prop := ∃ P : Nat → Prop, P s ∧ ∀ t, P t → t < 2 ^ n ∧ sd_keep n kd lf rt t ∧ sd_imp n kd lf rt P t
/-- s: the formulas that are true for the choice ch -/
def sd_V (n : Nat) (kd lf rt : Nat → Nat) (ch s : Nat) : Prop := ∀ i, i < n → s.testBit i = sd_v1 (kd i) (ch.testBit (lf i)) (s.testBit (lf i)) (s.testBit (rt i))
def sd_Wf (n : Nat) (kd lf rt : Nat → Nat) : Prop := n ≤ 11 ∧ (∀ i, i < n → kd i ≤ 4 ∧ lf i < 11 ∧ rt i < 11 ∧ (kd i ≤ 2 → lf i < i ∧ rt i < i) ∧ (kd i = 3 → lf i < 4 ∧ rt i = 0)) ∧ ∀ i j, i < n → j < n → kd i = kd j → lf i = lf j → rt i = rt j → i = j
def sd_ent (n : Nat) (kd lf rt : Nat → Nat) (s c : Nat) : Prop := ∀ t, sd_W n kd lf rt t → sd_sub s t → t.testBit c = true
def sd_cla (n : Nat) (kd lf rt : Nat → Nat) (s c : Nat) : Prop := ∀ ch, ch < 16 → ∀ t, t < 2 ^ n → sd_V n kd lf rt ch t → sd_sub s t → t.testBit c = true
/-! ===== bits ===== -/
theorem sd_hi {s n i : Nat} (hs : s < 2 ^ n) (h : n ≤ i) : s.testBit i = false := Nat.testBit_lt_two_pow (Nat.lt_of_lt_of_le hs (Nat.pow_le_pow_right (by decide) h))
theorem sd_sub_r (s : Nat) : sd_sub s s := fun _ z => z
theorem sd_sub_t {s t r : Nat} (h : sd_sub s t) (g : sd_sub t r) : sd_sub s r := fun i z => g i (h i z)
theorem sd_sub_le {s t : Nat} (h : sd_sub s t) : s ≤ t := Nat.le_of_testBit h
theorem sd_sub_0 (t : Nat) : sd_sub 0 t := fun i z => absurd z (by rw [Nat.zero_testBit]; decide)
theorem sd_or_lo {s i m : Nat} (h : i ≠ m) : (s ||| 2 ^ m).testBit i = s.testBit i := by
  rw [Nat.testBit_or, Nat.testBit_two_pow_of_ne (fun e => h e.symm), Bool.or_false]
theorem sd_or_at (s m : Nat) : (s ||| 2 ^ m).testBit m = true := by
  rw [Nat.testBit_or, Nat.testBit_two_pow_self, Bool.or_true]
theorem sd_or_lt {s m : Nat} (h : s < 2 ^ m) : s ||| 2 ^ m < 2 ^ (m + 1) :=
  Nat.or_lt_two_pow (Nat.lt_of_lt_of_le h (Nat.pow_le_pow_right (by decide) (by omega))) (Nat.pow_lt_pow_right (by decide) (by omega))
theorem sd_lt_s {s m : Nat} (h : s < 2 ^ m) : s < 2 ^ (m + 1) := Nat.lt_of_lt_of_le h (Nat.pow_le_pow_right (by decide) (by omega))
theorem sd_build (n : Nat) (F : Nat → (Nat → Bool) → Bool) (hF : ∀ j, j < n → ∀ f g : Nat → Bool, (∀ i, i < j → f i = g i) → F j f = F j g) : ∃ s, s < 2 ^ n ∧ ∀ j, j < n → s.testBit j = F j s.testBit := by
  have key : ∀ m, m ≤ n → ∃ s, s < 2 ^ m ∧ ∀ j, j < m → s.testBit j = F j s.testBit := by
    intro m
    induction m with
    | zero => intro _; exact ⟨0, by decide, fun j hj => absurd hj (by omega)⟩
    | succ m ih =>
      intro hm
      obtain ⟨s, h1, h2⟩ := ih (by omega)
      cases hb : F m s.testBit with
      | false =>
        refine ⟨s, sd_lt_s h1, fun j hj => ?_⟩
        by_cases e : j = m
        · rw [e, hb, sd_hi h1 (Nat.le_refl m)]
        · exact h2 j (by omega)
      | true =>
        have e1 : ∀ i, i < m → (s ||| 2 ^ m).testBit i = s.testBit i := fun i hi => sd_or_lo (by omega)
        refine ⟨s ||| 2 ^ m, sd_or_lt h1, fun j hj => ?_⟩
        by_cases e : j = m
        · rw [e, hF m (by omega) (s ||| 2 ^ m).testBit s.testBit e1, hb, sd_or_at]
        · rw [e1 j (by omega), h2 j (by omega)]
          exact hF j (by omega) _ _ (fun i hi => (e1 i (by omega)).symm)
  exact key n (Nat.le_refl n)
/-! ===== the connectives, by table ===== -/
theorem sd_cs {k : Nat} (h : k ≤ 4) : k = 0 ∨ k = 1 ∨ k = 2 ∨ k = 3 ∨ k = 4 := by omega
theorem sd_kv {k : Nat} (hk : k ≤ 4) : ∀ t a b : Bool, sd_k1 k (sd_v1 k t a b) a b = true := by
  rcases sd_cs hk with rfl | rfl | rfl | rfl | rfl <;> decide
theorem sd_v2 : ∀ t a b : Bool, sd_v1 2 t a b = false → a = true ∧ b = false := by decide
theorem sd_v_hi {k : Nat} (h : 2 < k) (t a b a' b' : Bool) : sd_v1 k t a b = sd_v1 k t a' b' := by
  unfold sd_v1
  rw [if_neg (show ¬ k = 0 by omega), if_neg (show ¬ k = 1 by omega), if_neg (show ¬ k = 2 by omega), if_neg (show ¬ k = 0 by omega), if_neg (show ¬ k = 1 by omega), if_neg (show ¬ k = 2 by omega)]
theorem sd_f_p {k : Nat} (hk : k ≤ 4) : ∀ p q a b a' b' : Bool, sd_f1 k p q a b = true → sd_k1 k p a' b' = true → (k ≤ 2 → a = true → a' = true) → (k ≤ 2 → b = true → b' = true) → p = true := by
  rcases sd_cs hk with rfl | rfl | rfl | rfl | rfl <;> decide
theorem sd_f_q {k : Nat} (hk : k ≤ 4) : ∀ p q a b a' b' : Bool, sd_f1 k p q a b = true → sd_k1 k q a' b' = true → (k ≤ 2 → a = true → a' = true) → (k ≤ 2 → b = true → b' = true) → q = true := by
  rcases sd_cs hk with rfl | rfl | rfl | rfl | rfl <;> decide
theorem sd_f_k {k : Nat} (hk : k ≤ 4) : ∀ p q a b a' b' a2 b2 : Bool, sd_k1 k p a' b' = true → sd_k1 k q a2 b2 = true → (b = true → b' = true) → (b = true → b2 = true) → sd_k1 k (sd_f1 k p q a b) a b = true := by
  rcases sd_cs hk with rfl | rfl | rfl | rfl | rfl <;> decide
theorem sd_f2 : ∀ p q a b : Bool, sd_f1 2 p q a b = false → p = false ∨ q = false ∨ (a = true ∧ b = false) := by decide
theorem sd_f_or : ∀ p q a b : Bool, sd_f1 1 p q a b = true → a = true ∨ b = true := by decide
theorem sd_f_lo {k : Nat} (p q a b a' b' : Bool) (ha : k ≤ 2 → a = a') (hb : k ≤ 2 → b = b') : sd_f1 k p q a b = sd_f1 k p q a' b' := by
  by_cases h : k ≤ 2
  · rw [ha h, hb h]
  · unfold sd_f1
    rw [if_neg (show ¬ k = 0 by omega), if_neg (show ¬ k = 1 by omega), if_neg (show ¬ k = 2 by omega), if_neg (show ¬ k = 0 by omega), if_neg (show ¬ k = 1 by omega), if_neg (show ¬ k = 2 by omega)]
theorem sd_v_lo {k : Nat} (t a b a' b' : Bool) (ha : k ≤ 2 → a = a') (hb : k ≤ 2 → b = b') : sd_v1 k t a b = sd_v1 k t a' b' := by
  by_cases h : k ≤ 2
  · rw [ha h, hb h]
  · exact sd_v_hi (by omega) t a b a' b'
/-! ===== saturated sets ===== -/
theorem sd_W_out {n s : Nat} {kd lf rt : Nat → Nat} (h : sd_W n kd lf rt s) : s < 2 ^ n ∧ sd_keep n kd lf rt s ∧ sd_imp n kd lf rt (sd_W n kd lf rt) s := by
  obtain ⟨P, hs, hP⟩ := h
  obtain ⟨h1, h2, h3⟩ := hP s hs
  refine ⟨h1, h2, fun i hi hk hb => ?_⟩
  obtain ⟨t, ht, r⟩ := h3 i hi hk hb
  exact ⟨t, ⟨P, ht, hP⟩, r⟩
theorem sd_W_in {n s : Nat} {kd lf rt : Nat → Nat} (h1 : s < 2 ^ n) (h2 : sd_keep n kd lf rt s) (h3 : sd_imp n kd lf rt (fun t => t = s ∨ sd_W n kd lf rt t) s) : sd_W n kd lf rt s := by
  refine ⟨fun t => t = s ∨ sd_W n kd lf rt t, Or.inl rfl, fun t ht => ?_⟩
  rcases ht with e | ht
  · rw [e]
    exact ⟨h1, h2, h3⟩
  · obtain ⟨g1, g2, g3⟩ := sd_W_out ht
    refine ⟨g1, g2, fun i hi hk hb => ?_⟩
    obtain ⟨t', r1, r2⟩ := g3 i hi hk hb
    exact ⟨t', Or.inr r1, r2⟩
/-- 'parts' over the worlds ws 0 .. ws (m-1) -/
def sd_par (ws : Nat → Nat) (m s a b : Nat) : Prop := (s.testBit a = true ∧ s.testBit b = false) ∨ ∃ j, j < m ∧ sd_sub s (ws j) ∧ (ws j).testBit a = true ∧ (ws j).testBit b = false
theorem sd_step {n k m : Nat} {kd lf rt ws : Nat → Nat} (hk : k < 2 ^ n) (h1 : ∀ j, j < m → sd_W n kd lf rt (ws j)) (h2 : ∀ s, k < s → sd_W n kd lf rt s → ∃ j, j < m ∧ ws j = s) :
    (sd_keep n kd lf rt k ∧ ∀ i, i < n → kd i = 2 → k.testBit i = false → sd_par ws m k (lf i) (rt i)) ↔ sd_W n kd lf rt k := by
  constructor
  · intro h
    refine sd_W_in hk h.1 (fun i hi hk hb => ?_)
    rcases h.2 i hi hk hb with g | ⟨j, hj, hs, g⟩
    · exact ⟨k, Or.inl rfl, sd_sub_r k, g⟩
    · exact ⟨ws j, Or.inr (h1 j hj), hs, g⟩
  · intro h
    obtain ⟨g1, g2, g3⟩ := sd_W_out h
    refine ⟨g2, fun i hi hk hb => ?_⟩
    obtain ⟨t, ht, hs, g⟩ := g3 i hi hk hb
    by_cases e : t = k
    · rw [e] at g
      exact Or.inl g
    · have := sd_sub_le hs
      obtain ⟨j, hj, ej⟩ := h2 t (by omega) ht
      refine Or.inr ⟨j, hj, ?_⟩
      rw [ej]
      exact ⟨hs, g⟩
theorem sd_VW {n ch s : Nat} {kd lf rt : Nat → Nat} (hw : sd_Wf n kd lf rt) (hs : s < 2 ^ n) (h : sd_V n kd lf rt ch s) : sd_W n kd lf rt s := by
  refine sd_W_in hs (fun i hi => ?_) (fun i hi hk hb => ⟨s, Or.inl rfl, sd_sub_r s, ?_⟩)
  · rw [h i hi]
    exact sd_kv (hw.2.1 i hi).1 _ _ _
  · rw [h i hi, hk] at hb
    exact sd_v2 _ _ _ hb
theorem sd_V_uniq {n ch s t : Nat} {kd lf rt : Nat → Nat} (hw : sd_Wf n kd lf rt) (hs : s < 2 ^ n) (ht : t < 2 ^ n) (h1 : sd_V n kd lf rt ch s) (h2 : sd_V n kd lf rt ch t) : s = t := by
  have key : ∀ i, i < n → s.testBit i = t.testBit i := by
    intro i
    induction i using Nat.strongRecOn with
    | ind i ih =>
      intro hi
      rw [h1 i hi, h2 i hi]
      have hl := (hw.2.1 i hi).2.2.2.1
      exact sd_v_lo _ _ _ _ _ (fun hk => ih _ (hl hk).1 (by have := (hl hk).1; omega)) (fun hk => ih _ (hl hk).2 (by have := (hl hk).2; omega))
  refine Nat.eq_of_testBit_eq (fun i => ?_)
  rcases Nat.lt_or_ge i n with h | h
  · exact key i h
  · rw [sd_hi hs h, sd_hi ht h]
theorem sd_ent_cla {n s c : Nat} {kd lf rt : Nat → Nat} (hw : sd_Wf n kd lf rt) (h : sd_ent n kd lf rt s c) : sd_cla n kd lf rt s c :=
  fun _ _ t ht hv hs => h t (sd_VW hw ht hv) hs
theorem sd_max {n v : Nat} {kd lf rt : Nat → Nat} (hv : sd_W n kd lf rt v) : ∃ m, sd_W n kd lf rt m ∧ sd_sub v m ∧ ∀ t, sd_W n kd lf rt t → sd_sub m t → t = m := by
  have key : ∀ d v, 2 ^ n - v ≤ d → sd_W n kd lf rt v → ∃ m, sd_W n kd lf rt m ∧ sd_sub v m ∧ ∀ t, sd_W n kd lf rt t → sd_sub m t → t = m := by
    intro d
    induction d with
    | zero =>
      intro v h hv
      have := (sd_W_out hv).1
      omega
    | succ d ih =>
      intro v h hv
      by_cases e : ∃ t, sd_W n kd lf rt t ∧ sd_sub v t ∧ t ≠ v
      · obtain ⟨t, ht, hs, hn⟩ := e
        have h1 := sd_sub_le hs
        have h2 := (sd_W_out ht).1
        obtain ⟨m, g1, g2, g3⟩ := ih t (by omega) ht
        exact ⟨m, g1, sd_sub_t hs g2, g3⟩
      · refine ⟨v, hv, sd_sub_r v, fun t ht hs => ?_⟩
        by_cases en : t = v
        · exact en
        · exact absurd ⟨t, ht, hs, en⟩ e
  exact key _ v (Nat.le_refl _) hv
/-- the disjunction property -/
theorem sd_disj {n o : Nat} {kd lf rt : Nat → Nat} (hw : sd_Wf n kd lf rt) (ho : o < n) (hk : kd o = 1) (h : sd_ent n kd lf rt 0 o) : sd_ent n kd lf rt 0 (lf o) ∨ sd_ent n kd lf rt 0 (rt o) := by
  by_cases hl : sd_ent n kd lf rt 0 (lf o)
  · exact Or.inl hl
  by_cases hr : sd_ent n kd lf rt 0 (rt o)
  · exact Or.inr hr
  exfalso
  have hu : ∃ u, sd_W n kd lf rt u ∧ u.testBit (lf o) = false := by
    refine Classical.byContradiction (fun z => hl (fun t ht _ => ?_))
    cases e : t.testBit (lf o) with
    | true => rfl
    | false => exact absurd ⟨t, ht, e⟩ z
  have hv : ∃ v, sd_W n kd lf rt v ∧ v.testBit (rt o) = false := by
    refine Classical.byContradiction (fun z => hr (fun t ht _ => ?_))
    cases e : t.testBit (rt o) with
    | true => rfl
    | false => exact absurd ⟨t, ht, e⟩ z
  obtain ⟨u, hu, ul⟩ := hu
  obtain ⟨v, hv, vr⟩ := hv
  obtain ⟨u1, u2, u3⟩ := sd_W_out hu
  obtain ⟨v1, v2, v3⟩ := sd_W_out hv
  obtain ⟨T, hT, hb⟩ := sd_build n (fun j f => sd_f1 (kd j) (u.testBit j) (v.testBit j) (f (lf j)) (f (rt j)))
    (fun j hj f g e => sd_f_lo _ _ _ _ _ _ (fun z => e _ ((hw.2.1 j hj).2.2.2.1 z).1) (fun z => e _ ((hw.2.1 j hj).2.2.2.1 z).2))
  have hb' : ∀ j, j < n → T.testBit j = sd_f1 (kd j) (u.testBit j) (v.testBit j) (T.testBit (lf j)) (T.testBit (rt j)) := hb
  have mono : ∀ j, j < n → T.testBit j = true → u.testBit j = true ∧ v.testBit j = true := by
    intro j
    induction j using Nat.strongRecOn with
    | ind j ih =>
      intro hj z
      rw [hb' j hj] at z
      obtain ⟨w1, _, _, w4, _⟩ := hw.2.1 j hj
      exact ⟨sd_f_p w1 _ _ _ _ _ _ z (u2 j hj) (fun hk ha => (ih _ (w4 hk).1 (by have := (w4 hk).1; omega) ha).1) (fun hk ha => (ih _ (w4 hk).2 (by have := (w4 hk).2; omega) ha).1),
        sd_f_q w1 _ _ _ _ _ _ z (v2 j hj) (fun hk ha => (ih _ (w4 hk).1 (by have := (w4 hk).1; omega) ha).2) (fun hk ha => (ih _ (w4 hk).2 (by have := (w4 hk).2; omega) ha).2)⟩
  have Tu : sd_sub T u := fun i z => by
    rcases Nat.lt_or_ge i n with h | h
    · exact (mono i h z).1
    · rw [sd_hi hT h] at z
      exact absurd z (by decide)
  have Tv : sd_sub T v := fun i z => by
    rcases Nat.lt_or_ge i n with h | h
    · exact (mono i h z).2
    · rw [sd_hi hT h] at z
      exact absurd z (by decide)
  have hWT : sd_W n kd lf rt T := by
    refine sd_W_in hT (fun j hj => ?_) (fun j hj hk hn => ?_)
    · rw [hb' j hj]
      exact sd_f_k (hw.2.1 j hj).1 _ _ _ _ _ _ _ _ (u2 j hj) (v2 j hj) (Tu _) (Tv _)
    · rw [hb' j hj, hk] at hn
      rcases sd_f2 _ _ _ _ hn with g | g | g
      · obtain ⟨t, ht, hs, r⟩ := u3 j hj hk g
        exact ⟨t, Or.inr ht, sd_sub_t Tu hs, r⟩
      · obtain ⟨t, ht, hs, r⟩ := v3 j hj hk g
        exact ⟨t, Or.inr ht, sd_sub_t Tv hs, r⟩
      · exact ⟨T, Or.inl rfl, sd_sub_r T, g⟩
  have := h T hWT (sd_sub_0 T)
  rw [hb' o ho, hk] at this
  rcases sd_f_or _ _ _ _ this with g | g
  · rw [Tu _ g] at ul
    exact absurd ul (by decide)
  · rw [Tv _ g] at vr
    exact absurd vr (by decide)
theorem sd_g1 : ∀ t c f nt tw t2 t3 : Bool, tw = true → tw = sd_v1 2 t nt f → nt = sd_v1 2 t2 c f → f = sd_v1 4 t3 false false → c = true := by decide
theorem sd_g2 : ∀ nt c f a b : Bool, nt = true → c = true → sd_k1 2 nt c f = true → sd_k1 4 f a b = true → False := by decide
theorem sd_g3 {k : Nat} (hk : k ≤ 4) : ∀ h t a b : Bool, sd_k1 k h a b = true → (k = 3 → h = t) → (k = 2 → h = false → a = true ∧ b = false) → h = sd_v1 k t a b := by
  rcases sd_cs hk with rfl | rfl | rfl | rfl | rfl <;> decide
/-- Glivenko's theorem -/
theorem sd_gliv {n c f nt tw : Nat} {kd lf rt : Nat → Nat} (hw : sd_Wf n kd lf rt) (hf : f < n) (hnt : nt < n) (htw : tw < n) (kf : kd f = 4)
    (kn : kd nt = 2) (ln : lf nt = c) (rn : rt nt = f) (kt : kd tw = 2) (lt : lf tw = nt) (rt' : rt tw = f) : sd_ent n kd lf rt 0 tw ↔ sd_cla n kd lf rt 0 c := by
  constructor
  · intro h ch _ s hs hv _
    have h1 := h s (sd_VW hw hs hv) (sd_sub_0 s)
    have h2 := hv tw htw
    have h3 := hv nt hnt
    have h4 := hv f hf
    rw [kt, lt, rt'] at h2
    rw [kn, ln, rn] at h3
    rw [kf, sd_v_hi (by decide) _ _ _ false false] at h4
    exact sd_g1 _ _ _ _ _ _ _ h1 h2 h3 h4
  · intro h w hW _
    cases hb : w.testBit tw with
    | true => rfl
    | false =>
      exfalso
      obtain ⟨v, hv, _, v1, v2⟩ := (sd_W_out hW).2.2 tw htw kt hb
      obtain ⟨m, hm, m1, m2⟩ := sd_max hv
      obtain ⟨g1, g2, g3⟩ := sd_W_out hm
      obtain ⟨ch, hc, hcb⟩ := sd_build 4 (fun a _ => @decide (∃ i, i < n ∧ kd i = 3 ∧ lf i = a ∧ m.testBit i = true) (Classical.propDecidable _)) (fun j hj f g e => rfl)
      have hV : sd_V n kd lf rt ch m := by
        intro i hi
        refine sd_g3 (hw.2.1 i hi).1 _ _ _ _ (g2 i hi) (fun hk => ?_) (fun hk hb => ?_)
        · have l4 := (hw.2.1 i hi).2.2.2.2 hk
          rw [hcb (lf i) l4.1]
          by_cases e : ∃ j, j < n ∧ kd j = 3 ∧ lf j = lf i ∧ m.testBit j = true
          · have e' := e
            obtain ⟨j, hj, kj, lj, bj⟩ := e'
            have := hw.2.2 j i hj hi (by rw [kj, hk]) lj (by rw [((hw.2.1 j hj).2.2.2.2 kj).2, l4.2])
            rw [this] at bj
            rw [bj]
            exact (@decide_eq_true _ (Classical.propDecidable _) e).symm
          · have : m.testBit i = false := by
              cases hb : m.testBit i with
              | false => rfl
              | true => exact absurd ⟨i, hi, hk, rfl, hb⟩ e
            rw [this]
            exact (@decide_eq_false _ (Classical.propDecidable _) e).symm
        · obtain ⟨t, ht, hs, r⟩ := g3 i hi hk hb
          rw [m2 t ht hs] at r
          exact r
      have hcm := h ch (by omega) m g1 hV (sd_sub_0 m)
      have k1 := g2 nt hnt
      have k2 := g2 f hf
      rw [kn, ln, rn] at k1
      rw [kf] at k2
      rw [lt] at v1
      exact sd_g2 _ _ _ _ _ (m1 _ v1) hcm k1 k2
end
section
/-! ===== Int32 and the bits of naturals ===== -/
def sd_b : Bool → Int32
  | true => 1
  | false => 0
theorem sd_bN (b : Bool) : sd_b b = nI b.toNat := by cases b <;> rfl
theorem sd_nar (b : Bool) : narrow .boolean (.int (sd_b b)) = .int (sd_b b) := by cases b <;> rfl
theorem sd_b0 {A B : Prop} (b : Bool) (f : b = false → A) (g : b = true → B) : (sd_b b = 0 → A) ∧ (¬ sd_b b = 0 → B) := by
  cases b
  · exact br_t rfl (f rfl)
  · exact br_f (by decide) (g rfl)
theorem sd_b1 {A B : Prop} (b : Bool) (f : b = true → A) (g : b = false → B) : (sd_b b = 1 → A) ∧ (¬ sd_b b = 1 → B) := by
  cases b
  · exact br_f (by decide) (g rfl)
  · exact br_t rfl (f rfl)
theorem sd_sl : ∀ n, n < 32 → ((nI n &&& 31).toBitVec.smod 32).toNat = n := by decide +kernel
theorem sd_bit (x : Int32) {i : Nat} (hi : i < 32) : (x >>> (nI i &&& 31)) &&& 1 = sd_b (x.toBitVec.getLsbD i) := by
  have e : (x >>> (nI i &&& 31)).toBitVec = x.toBitVec.sshiftRight i := by
    rw [Int32.toBitVec_shiftRight]
    show x.toBitVec.sshiftRight ((nI i &&& 31).toBitVec.smod 32).toNat = _
    rw [sd_sl i hi]
  apply Int32.toBitVec_inj.mp
  rw [Int32.toBitVec_and, e]
  apply BitVec.eq_of_getLsbD_eq
  intro j hj
  have e1 : (1 : Int32).toBitVec.getLsbD j = decide (j = 0) := (by decide +kernel : ∀ j, j < 32 → (1 : Int32).toBitVec.getLsbD j = decide (j = 0)) j hj
  have e0 : (0 : Int32).toBitVec.getLsbD j = false := BitVec.getLsbD_zero
  rw [BitVec.getLsbD_and, BitVec.getLsbD_sshiftRight, e1]
  by_cases h : j = 0
  · subst h
    cases hb : x.toBitVec.getLsbD i
    · show _ = (0 : Int32).toBitVec.getLsbD 0
      simp [hi, hb]
    · show _ = (1 : Int32).toBitVec.getLsbD 0
      simp [hi, hb]
  · rw [decide_eq_false h, Bool.and_false]
    cases hb : x.toBitVec.getLsbD i
    · exact e0.symm
    · exact (e1.trans (decide_eq_false h)).symm
theorem sd_bitN (s : Nat) {i : Nat} (hi : i < 32) : (nI s >>> (nI i &&& 31)) &&& 1 = sd_b (s.testBit i) := by
  rw [sd_bit _ hi]
  have : (nI s).toBitVec.getLsbD i = s.testBit i := by
    show (BitVec.ofNat 32 s).getLsbD i = _
    rw [BitVec.getLsbD_ofNat, decide_eq_true hi, Bool.true_and]
  rw [this]
theorem sd_and (a b : Nat) : nI a &&& nI b = nI (a &&& b) := by
  apply Int32.toBitVec_inj.1
  show BitVec.ofNat 32 a &&& BitVec.ofNat 32 b = BitVec.ofNat 32 (a &&& b)
  apply BitVec.eq_of_getLsbD_eq
  intro i hi
  simp [hi]
theorem sd_or (a b : Nat) : nI a ||| nI b = nI (a ||| b) := by
  apply Int32.toBitVec_inj.1
  show BitVec.ofNat 32 a ||| BitVec.ofNat 32 b = BitVec.ofNat 32 (a ||| b)
  apply BitVec.eq_of_getLsbD_eq
  intro i hi
  simp [hi]
theorem sd_xor (a b : Nat) : nI a ^^^ nI b = nI (a ^^^ b) := by
  apply Int32.toBitVec_inj.1
  show BitVec.ofNat 32 a ^^^ BitVec.ofNat 32 b = BitVec.ofNat 32 (a ^^^ b)
  apply BitVec.eq_of_getLsbD_eq
  intro i hi
  simp [hi]
/-- s without t -/
def sd_dif (s t : Nat) : Nat := s &&& (t ^^^ (2 ^ 32 - 1))
theorem sd_difI (s t : Nat) : nI s &&& (nI t ^^^ (-1)) = nI (sd_dif s t) := by
  have : (-1 : Int32) = nI (2 ^ 32 - 1) := by decide
  rw [this, sd_xor, sd_and]
  rfl
theorem sd_dif_le (s t : Nat) : sd_dif s t ≤ s := Nat.and_le_left
theorem sd_dif0 {s t : Nat} (hs : s < 2 ^ 31) : sd_dif s t = 0 ↔ sd_sub s t := by
  have hb : ∀ i, (sd_dif s t).testBit i = (s.testBit i && !t.testBit i) := by
    intro i
    unfold sd_dif
    rw [Nat.testBit_and, Nat.testBit_xor, Nat.testBit_two_pow_sub_one]
    rcases Nat.lt_or_ge i 32 with h | h
    · rw [decide_eq_true h, Bool.xor_true]
    · rw [sd_hi (n := 31) hs (by omega), Bool.false_and, Bool.false_and]
  constructor
  · intro h i z
    have := hb i
    rw [h, Nat.zero_testBit, z] at this
    cases e : t.testBit i with
    | true => rfl
    | false => rw [e] at this; exact absurd this (by decide)
  · intro h
    refine Nat.eq_of_testBit_eq (fun i => ?_)
    rw [hb i, Nat.zero_testBit]
    cases e : s.testBit i with
    | false => rfl
    | true => rw [h i e]; rfl
theorem sd_subI {s t : Nat} (hs : s < 2 ^ 31) : (nI s &&& (nI t ^^^ (-1))) = 0 ↔ sd_sub s t := by
  rw [sd_difI, ← nI_0, nI_eq (Nat.lt_of_le_of_lt (sd_dif_le s t) hs) (by omega)]
  exact sd_dif0 hs
theorem sd_16 : ∀ k, k < 2048 → (nI k).toInt16.toInt32 = nI k := by decide +kernel
theorem sd_8 : ∀ k, k < 128 → (nI k).toInt8.toInt32 = nI k := by decide +kernel
theorem sd_every : ∀ n, n < 12 → ((1 : Int32) <<< (nI n &&& 31)) - 1 = nI (2 ^ n - 1) := by decide +kernel
theorem sd_everyD : ∀ n, n < 12 → ((1 : Int32) <<< (nI n &&& 31)) - 1 = nI (2 ^ n) + (-1) := by decide +kernel
theorem sd_shl : ∀ n, n < 12 → (1 : Int32) <<< (nI n &&& 31) = nI (2 ^ n) := by decide +kernel
theorem sd_p2 {n : Nat} (h : n ≤ 11) : 2 ^ n ≤ 2048 := Nat.pow_le_pow_right (n := 2) (by decide) h
theorem sd_p0 (n : Nat) : 0 < 2 ^ n := Nat.pow_pos (by decide)
/-- what is asked of n formulas, out of an int -/
def sd_ask (x : Int32) (n : Nat) : Nat := x.toBitVec.toNat % 2 ^ n
theorem sd_ask_lt (x : Int32) (n : Nat) : sd_ask x n < 2 ^ n := Nat.mod_lt _ (sd_p0 n)
theorem sd_askI (x : Int32) {n : Nat} (h : n ≤ 11) : x &&& nI (2 ^ n - 1) = nI (sd_ask x n) := by
  have := sd_p2 h
  exact pk_and x n (pk_tn (by omega))
theorem sd_ask_bit (x : Int32) {n i : Nat} (h : i < n) : (sd_ask x n).testBit i = x.toBitVec.getLsbD i := by
  unfold sd_ask
  rw [Nat.testBit_mod_two_pow, decide_eq_true h, Bool.true_and]
  rfl
theorem sd_ask0 (n : Nat) : sd_ask 0 n = 0 := Nat.zero_mod _
/-- how many of the first k -/
def sd_cnt (s : Nat) : Nat → Nat
  | 0 => 0
  | k + 1 => sd_cnt s k + (s.testBit k).toNat
theorem sd_cnt_le (s k : Nat) : sd_cnt s k ≤ k := by
  induction k with
  | zero => exact Nat.le_refl 0
  | succ k ih =>
    show sd_cnt s k + (s.testBit k).toNat ≤ k + 1
    have : (s.testBit k).toNat ≤ 1 := by cases s.testBit k <;> decide
    omega
theorem sd_cntI (s k : Nat) : nI (sd_cnt s k) + sd_b (s.testBit k) = nI (sd_cnt s (k + 1)) := by
  rw [sd_bN, nI_add]
  rfl
/-- a loop that counts up to e, or ends before -/
theorem sd_loop {σ : Type} (W : Nat → Nat → σ → Prop) (I : Nat → σ → Prop) (e : Nat) (hs : ∀ f i s, i ≤ e → I i s → (∀ s', i < e → I (i + 1) s' → W f (i + 1) s') → W (f + 1) i s) (s : σ) (h : I 0 s) : ∃ f, W f 0 s := by
  have key : ∀ f i s, i ≤ e → e - i < f → I i s → W f i s := by
    intro f
    induction f with
    | zero => intro i s _ h; omega
    | succ f ih => intro i s hi hf hI; exact hs f i s hi hI (fun s' hl h' => ih (i + 1) s' (by omega) (by omega) h')
  exact ⟨e + 1, key (e + 1) 0 s (by omega) (by omega) h⟩
end
section
/-! ===== the state and the picture; in, keeps, parts, isWorld, find ===== -/
def sd_M (n : Nat) (kd lf rt : Nat → Nat) (a1 a2 a3 : Nat → Int32) : Prop := ∀ i, i < n → a1 i = nI (kd i) ∧ a2 i = nI (lf i) ∧ a3 i = nI (rt i)
/-- the worlds ws 0 .. ws (m-1) lie in the array, and are all the saturated sets -/
def sd_L (n : Nat) (kd lf rt : Nat → Nat) (fo : Int32) (a4 : Nat → Int32) (m : Nat) (ws : Nat → Nat) : Prop := fo = nI m ∧ m ≤ 2 ^ n ∧ (∀ j, j < m → a4 j = nI (ws j) ∧ sd_W n kd lf rt (ws j)) ∧ ∀ s, sd_W n kd lf rt s → ∃ j, j < m ∧ ws j = s
def sd_S (n : Nat) (kd lf rt : Nat → Nat) (u : St1) : Prop := sd_Wf n kd lf rt ∧ ∃ (kn fo hu : Int32) (a1 a2 a3 a4 a5 : Nat → Int32), u = (nI n, kn, fo, hu, a1, a2, a3, a4, a5) ∧ sd_M n kd lf rt a1 a2 a3 ∧ (kn = 0 ∨ ∃ m ws, sd_L n kd lf rt fo a4 m ws)
def sd_K (n : Nat) (kd lf rt : Nat → Nat) (u : St1) : Prop := sd_Wf n kd lf rt ∧ ∃ (kn fo hu : Int32) (a1 a2 a3 a4 a5 : Nat → Int32), u = (nI n, kn, fo, hu, a1, a2, a3, a4, a5) ∧ sd_M n kd lf rt a1 a2 a3 ∧ ∃ m ws, sd_L n kd lf rt fo a4 m ws
theorem sd_KS {n : Nat} {kd lf rt : Nat → Nat} {u : St1} (h : sd_K n kd lf rt u) : sd_S n kd lf rt u := by
  obtain ⟨hw, kn, fo, hu, a1, a2, a3, a4, a5, e, hm, hl⟩ := h
  exact ⟨hw, kn, fo, hu, a1, a2, a3, a4, a5, e, hm, Or.inr hl⟩
theorem sd_in {post : Int32 → Prop} {u : St1} {s i : Nat} (hi : i < 32) (h : post (sd_b (s.testBit i))) : wpX_in post u (nI s) (nI i) := by
  obtain ⟨c0, c1, c2, c3, a1, a2, a3, a4, a5⟩ := u
  show (((nI s >>> (nI i &&& 31)) &&& 1) = 1 → post 1) ∧ (¬ ((nI s >>> (nI i &&& 31)) &&& 1) = 1 → post 0)
  rw [sd_bitN s hi]
  cases hb : s.testBit i with
  | false => rw [hb] at h; exact br_f (by decide) h
  | true => rw [hb] at h; exact br_t rfl h
theorem sd_keeps {post : Int32 → Prop} {n s : Nat} {kd lf rt : Nat → Nat} {c1 c2 c3 : Int32} {a1 a2 a3 a4 a5 : Nat → Int32} (hw : sd_Wf n kd lf rt) (hm : sd_M n kd lf rt a1 a2 a3)
    (H : ∀ v : Bool, (v = true ↔ sd_keep n kd lf rt s) → post (sd_b v)) : wpX_keeps post (nI n, c1, c2, c3, a1, a2, a3, a4, a5) (nI s) := by
  refine sd_loop (fun f i v => wX_keeps_4 post (nI s) (nI n) c1 c2 c3 a1 a2 a3 a4 a5 f (sd_b v) (nI i)) (fun i v => v = true ↔ ∀ j, j < i → sd_k1 (kd j) (s.testBit j) (s.testBit (lf j)) (s.testBit (rt j)) = true) n ?_ true ⟨fun _ j hj => absurd hj (by omega), fun _ => rfl⟩
  intro f i v hi hI hk
  have hn := hw.1
  refine pk_le n i (fun z => ⟨sd_nar v, H v ?_⟩) (fun z => sd_b0 v (fun hv => ⟨sd_nar v, H v ?_⟩) (fun hv => ?_))
  · have : i = n := by omega
    subst this
    exact hI
  · rw [hv] at hI ⊢
    exact ⟨fun z => absurd z (by decide), fun z => hI.mpr (fun j hj => z j (by omega))⟩
  · obtain ⟨w1, w2, w3, w4, w5⟩ := hw.2.1 i z
    obtain ⟨m1, m2, m3⟩ := hm i z
    have K : ∀ v' : Bool, v' = sd_k1 (kd i) (s.testBit i) (s.testBit (lf i)) (s.testBit (rt i)) → wX_keeps_4 post (nI s) (nI n) c1 c2 c3 a1 a2 a3 a4 a5 f (sd_b v') (nI (i + 1)) := by
      intro v' e
      refine hk v' z ⟨fun t j hj => ?_, fun t => ?_⟩
      · by_cases ej : j = i
        · rw [ej, ← e]
          exact t
        · exact (hI.mp hv) j (by omega)
      · rw [e]
        exact t i (by omega)
    rw [nI_clamp (show i < 2 ^ 31 by omega), m1, m2, m3]
    refine sd_in (by omega) ⟨pk_in i 11 (by omega), sd_in (by omega) ⟨pk_in i 11 (by omega), sd_in (by omega) ⟨pk_in i 11 (by omega), ?_⟩⟩⟩
    clear m1 m2 m3 w2 w3 w4 w5
    generalize s.testBit i = h at K ⊢
    generalize s.testBit (lf i) = a at K ⊢
    generalize s.testBit (rt i) = b at K ⊢
    generalize wX_keeps_4 post (nI s) (nI n) c1 c2 c3 a1 a2 a3 a4 a5 f = J at K ⊢
    generalize kd i = k at K w1 ⊢
    refine pk_eq k 0 (fun e => ?_) (fun e0 => ⟨pk_in i 11 (by omega), pk_eq k 1 (fun e => ?_) (fun e1 => ⟨pk_in i 11 (by omega), pk_eq k 2 (fun e => ?_) (fun e2 => ⟨pk_in i 11 (by omega), pk_eq k 4 (fun e => ?_) (fun e4 => ?_)⟩)⟩)⟩)
    · subst e
      exact sd_b0 a
        (fun ha => sd_b0 h (fun hh => nm_r (nI_1 i) (K true (by cases h <;> cases a <;> cases b <;> first | contradiction | rfl))) (fun hh => nm_r (nI_1 i) (K false (by cases h <;> cases a <;> cases b <;> first | contradiction | rfl))))
        (fun ha => sd_b0 b
          (fun hb => sd_b0 h (fun hh => nm_r (nI_1 i) (K true (by cases h <;> cases a <;> cases b <;> first | contradiction | rfl))) (fun hh => nm_r (nI_1 i) (K false (by cases h <;> cases a <;> cases b <;> first | contradiction | rfl))))
          (fun hb => sd_b1 h (fun hh => nm_r (nI_1 i) (K true (by cases h <;> cases a <;> cases b <;> first | contradiction | rfl))) (fun hh => nm_r (nI_1 i) (K false (by cases h <;> cases a <;> cases b <;> first | contradiction | rfl)))))
    · subst e
      exact sd_b0 a
        (fun ha => sd_b0 b
          (fun hb => sd_b0 h (fun hh => nm_r (nI_1 i) (K true (by cases h <;> cases a <;> cases b <;> first | contradiction | rfl))) (fun hh => nm_r (nI_1 i) (K false (by cases h <;> cases a <;> cases b <;> first | contradiction | rfl))))
          (fun hb => sd_b1 h (fun hh => nm_r (nI_1 i) (K true (by cases h <;> cases a <;> cases b <;> first | contradiction | rfl))) (fun hh => nm_r (nI_1 i) (K false (by cases h <;> cases a <;> cases b <;> first | contradiction | rfl)))))
        (fun ha => sd_b1 h (fun hh => nm_r (nI_1 i) (K true (by cases h <;> cases a <;> cases b <;> first | contradiction | rfl))) (fun hh => nm_r (nI_1 i) (K false (by cases h <;> cases a <;> cases b <;> first | contradiction | rfl))))
    · subst e
      exact sd_b0 h
        (fun hh => sd_b0 b (fun hb => nm_r (nI_1 i) (K true (by cases h <;> cases a <;> cases b <;> first | contradiction | rfl))) (fun hb => nm_r (nI_1 i) (K false (by cases h <;> cases a <;> cases b <;> first | contradiction | rfl))))
        (fun hh => sd_b0 a (fun ha => nm_r (nI_1 i) (K true (by cases h <;> cases a <;> cases b <;> first | contradiction | rfl)))
          (fun ha => sd_b0 b (fun hb => nm_r (nI_1 i) (K false (by cases h <;> cases a <;> cases b <;> first | contradiction | rfl))) (fun hb => nm_r (nI_1 i) (K true (by cases h <;> cases a <;> cases b <;> first | contradiction | rfl)))))
    · subst e
      exact sd_b0 h (fun hh => nm_r (nI_1 i) (K true (by cases h <;> cases a <;> cases b <;> first | contradiction | rfl))) (fun hh => nm_r (nI_1 i) (K false (by cases h <;> cases a <;> cases b <;> first | contradiction | rfl)))
    · have e3 : k = 3 := by omega
      subst e3
      exact nm_r (nI_1 i) (K v hv)
theorem sd_parts {post : Int32 → Prop} {m s a b : Nat} {ws : Nat → Nat} {c0 c1 c3 : Int32} {a1 a2 a3 a4 a5 : Nat → Int32} (ha : a < 32) (hb : b < 32) (hs : s < 2 ^ 31) (hm : m ≤ 2048) (h4 : ∀ j, j < m → a4 j = nI (ws j))
    (H : ∀ v : Bool, (v = true ↔ sd_par ws m s a b) → post (sd_b v)) : wpX_parts post (c0, c1, nI m, c3, a1, a2, a3, a4, a5) (nI s) (nI a) (nI b) := by
  have loop : (¬ (s.testBit a = true ∧ s.testBit b = false)) → ∃ f, wX_parts_23 post (nI s) (nI a) (nI b) c0 c1 (nI m) c3 a1 a2 a3 a4 a5 f 0 := by
    intro hn
    refine sd_loop (σ := Unit) (fun f i _ => wX_parts_23 post (nI s) (nI a) (nI b) c0 c1 (nI m) c3 a1 a2 a3 a4 a5 f (nI i)) (fun i _ => ∀ j, j < i → ¬ (sd_sub s (ws j) ∧ (ws j).testBit a = true ∧ (ws j).testBit b = false)) m ?_ () (fun j hj => absurd hj (by omega))
    intro f i _ hi hI hk
    refine pk_le m i (fun z => H false ⟨fun t => absurd t (by decide), fun t => ?_⟩) (fun z => ⟨pk_in i 2048 (by omega), ?_⟩)
    · rcases t with t | ⟨j, hj, t⟩
      · exact absurd t hn
      · exact absurd t (hI j (by omega))
    · refine nm_r (e' := nI (ws i)) (by rw [nI_clamp (show i < 2 ^ 31 by omega)]; exact h4 i z) ?_
      refine ek_if (sd_subI hs) (fun g => ?_) (fun g => nm_r (nI_1 i) (hk () z (lt_s hI (fun t => g t.1))))
      refine sd_in ha (sd_b0 _ (fun e => nm_r (nI_1 i) (hk () z (lt_s hI (fun t => ?_)))) (fun e => sd_in hb (sd_b0 _ (fun e2 => H true ⟨fun _ => Or.inr ⟨i, z, g, e, e2⟩, fun _ => rfl⟩) (fun e2 => nm_r (nI_1 i) (hk () z (lt_s hI (fun t => ?_)))))))
      · rw [e] at t
        exact absurd t.2.1 (by decide)
      · rw [e2] at t
        exact absurd t.2.2 (by decide)
  unfold wpX_parts
  dsimp only
  refine sd_in ha (sd_b0 _ (fun e => loop (fun t => ?_)) (fun e => sd_in hb (sd_b0 _ (fun e2 => H true ⟨fun _ => Or.inl ⟨e, e2⟩, fun _ => rfl⟩) (fun e2 => loop (fun t => ?_)))))
  · rw [e] at t
    exact absurd t.1 (by decide)
  · rw [e2] at t
    exact absurd t.2 (by decide)
theorem sd_isWorld {post : Int32 → Prop} {n m s : Nat} {kd lf rt ws : Nat → Nat} {c1 c3 : Int32} {a1 a2 a3 a4 a5 : Nat → Int32} (hw : sd_Wf n kd lf rt) (hm : sd_M n kd lf rt a1 a2 a3) (hs : s < 2 ^ 31) (hmm : m ≤ 2048) (h4 : ∀ j, j < m → a4 j = nI (ws j))
    (H : ∀ v : Bool, (v = true ↔ (sd_keep n kd lf rt s ∧ ∀ i, i < n → kd i = 2 → s.testBit i = false → sd_par ws m s (lf i) (rt i))) → post (sd_b v)) : wpX_isWorld post (nI n, c1, nI m, c3, a1, a2, a3, a4, a5) (nI s) := by
  unfold wpX_isWorld
  dsimp only
  refine sd_keeps hw hm (fun v0 hv0 => ?_)
  refine sd_loop (fun f i v => wX_isWorld_8 post (nI s) (nI n) c1 (nI m) c3 a1 a2 a3 a4 a5 f (sd_b v) (nI i)) (fun i v => v = true ↔ (sd_keep n kd lf rt s ∧ ∀ j, j < i → kd j = 2 → s.testBit j = false → sd_par ws m s (lf j) (rt j))) n ?_ v0 ⟨fun z => ⟨hv0.mp z, fun j hj => absurd hj (by omega)⟩, fun z => hv0.mpr z.1⟩
  intro f i v hi hI hk
  have hn := hw.1
  refine pk_le n i (fun z => ⟨sd_nar v, H v ?_⟩) (fun z => sd_b0 v (fun hv => ⟨sd_nar v, H v ?_⟩) (fun hv => ⟨pk_in i 11 (by omega), ?_⟩))
  · have : i = n := by omega
    subst this
    exact hI
  · rw [hv] at hI ⊢
    exact ⟨fun z => absurd z (by decide), fun z => hI.mpr ⟨z.1, fun j hj => z.2 j (by omega)⟩⟩
  · obtain ⟨w1, w2, w3, w4, w5⟩ := hw.2.1 i z
    obtain ⟨m1, m2, m3⟩ := hm i z
    have hI' := hI.mp hv
    rw [nI_clamp (show i < 2 ^ 31 by omega), m1, m2, m3]
    refine pk_eq (kd i) 2 (fun e => sd_in (by omega) (sd_b0 _ (fun hb => ⟨pk_in i 11 (by omega), pk_in i 11 (by omega), sd_parts (by omega) (by omega) hs hmm h4 (fun r hr => nm_r (nI_1 i) (hk r z ⟨fun t => ⟨hI'.1, lt_s hI'.2 (fun _ _ => hr.mp t)⟩, fun t => hr.mpr (t.2 i (by omega) e hb)⟩))⟩) (fun hb => nm_r (nI_1 i) (hk v z ⟨fun t => ⟨hI'.1, lt_s hI'.2 (fun _ t => ?_)⟩, fun _ => hv⟩)))) (fun e => nm_r (nI_1 i) (hk v z ⟨fun t => ⟨hI'.1, lt_s hI'.2 (fun t => absurd t e)⟩, fun _ => hv⟩))
    rw [hb] at t
    exact absurd t (by decide)
theorem sd_find {post : St1 → Prop} {n : Nat} {kd lf rt : Nat → Nat} {u : St1} (h : sd_S n kd lf rt u) (H : ∀ u', sd_K n kd lf rt u' → post u') : wpX_find post u := by
  obtain ⟨hw, kn, fo, hu, a1, a2, a3, a4, a5, rfl, hm, hl⟩ := h
  have hn := hw.1
  have hp := sd_p2 hn
  refine br_c (fun z => ?_) (fun z => H _ ⟨hw, kn, fo, hu, a1, a2, a3, a4, a5, rfl, hm, hl.resolve_left z⟩)
  show ∃ fu, wX_find_23 post (nI n) 1 hu fu (((1 : Int32) <<< (nI n &&& 31)) - 1) 0 a1 a2 a3 a4 a5
  rw [sd_everyD n (by omega)]
  refine ⟨2 ^ n + 1, pk_loopD (σ := Nat × (Nat → Int32)) (fun f k s => wX_find_23 post (nI n) 1 hu f (nI k + (-1)) (nI s.1) a1 a2 a3 s.2 a5)
    (fun k s => ∃ ws, s.1 + k ≤ 2 ^ n ∧ (∀ j, j < s.1 → s.2 j = nI (ws j) ∧ sd_W n kd lf rt (ws j)) ∧ ∀ t, k ≤ t → sd_W n kd lf rt t → ∃ j, j < s.1 ∧ ws j = t) ?_ ?_ (2 ^ n) (0, a4) ⟨fun _ => 0, by simp, fun j hj => absurd hj (by simp), fun t ht hW => ?_⟩⟩
  · intro f s hI
    obtain ⟨ws, i1, i2, i3⟩ := hI
    exact br_t (by decide) (H _ ⟨hw, 1, nI s.1, hu, a1, a2, a3, s.2, a5, rfl, hm, s.1, ws, rfl, by omega, i2, fun t hW => i3 t (by omega) hW⟩)
  · intro f k s hI hk
    obtain ⟨ws, i1, i2, i3⟩ := hI
    obtain ⟨m, a4'⟩ := s
    dsimp only at i1 i2 i3
    show wX_find_23 post (nI n) 1 hu (f + 1) (nI (k + 1) + (-1)) (nI m) a1 a2 a3 a4' a5
    rw [pk_m1]
    refine br_f (nI_pos (by omega)) (sd_isWorld hw hm (by omega) (by omega) (fun j hj => (i2 j hj).1) (fun v hv => ?_))
    rw [sd_step (by omega) (fun j hj => (i2 j hj).2) (fun t ht hW => i3 t (by omega) hW)] at hv
    refine sd_b0 v (fun e => nm_e (hk (m, a4') ⟨ws, by show m + k ≤ 2 ^ n; omega, i2, fun t ht hW => ?_⟩)) (fun e => ⟨pk_in m 2048 (by omega), nm_r (e' := upd a4' m (nI k)) (by rw [nI_clamp (show m < 2 ^ 31 by omega), sd_16 k (by omega)]) (nm_r (nI_1 m) (nm_e (hk (m + 1, upd a4' m (nI k)) ⟨fun j => if j = m then k else ws j, by show m + 1 + k ≤ 2 ^ n; omega, fun j hj => ?_, fun t ht hW => ?_⟩)))⟩)
    · by_cases et : t = k
      · rw [et] at hW
        rw [hv.mpr hW] at e
        exact absurd e (by decide)
      · exact i3 t (by omega) hW
    · show upd a4' m (nI k) j = nI (if j = m then k else ws j) ∧ sd_W n kd lf rt (if j = m then k else ws j)
      by_cases ej : j = m
      · rw [if_pos ej, ej, pk_us]
        exact ⟨rfl, hv.mp e⟩
      · rw [if_neg ej, pk_un ej]
        exact i2 j (by have : j < m + 1 := hj; omega)
    · show ∃ j, j < m + 1 ∧ (if j = m then k else ws j) = t
      by_cases et : t = k
      · exact ⟨m, by omega, by rw [if_pos rfl, et]⟩
      · obtain ⟨j, hj, ej⟩ := i3 t (by omega) hW
        exact ⟨j, by omega, by rw [if_neg (by omega), ej]⟩
  · exact absurd (sd_W_out hW).1 (by omega)
end
section
/-! ===== closure, follows, against, gather, sizeOf, meetsAll, enough ===== -/
theorem sd_missing {post : Int32 → Prop} {n c : Nat} {c1 c2 c3 : Int32} {a1 a2 a3 a4 a5 : Nat → Int32} (hc : c < n) (hn : n ≤ 11) (h : post 0) : wpX_missing post (nI n, c1, c2, c3, a1, a2, a3, a4, a5) (nI c) :=
  br_f (nI_pos (by omega)) (br_t (nI_lt hc (by omega)) h)
theorem sd_everyW {post : Int32 → Prop} {n : Nat} {c1 c2 c3 : Int32} {a1 a2 a3 a4 a5 : Nat → Int32} (hn : n ≤ 11) (h : post (nI (2 ^ n - 1))) : wpX_every post (nI n, c1, c2, c3, a1, a2, a3, a4, a5) := by
  show post (((1 : Int32) <<< (nI n &&& 31)) - 1)
  rw [sd_every n (by omega)]
  exact h
theorem sd_closure {post : Int32 → Prop} {n m s : Nat} {ws : Nat → Nat} {c1 c3 : Int32} {a1 a2 a3 a4 a5 : Nat → Int32} (hn : n ≤ 11) (hs : s < 2 ^ 31) (hm : m ≤ 2048) (h4 : ∀ j, j < m → a4 j = nI (ws j))
    (H : ∀ acc : Nat, (∀ k, k < n → (acc.testBit k = true ↔ ∀ j, j < m → sd_sub s (ws j) → (ws j).testBit k = true)) → post (nI acc)) : wpX_closure post (nI n, c1, nI m, c3, a1, a2, a3, a4, a5) (nI s) := by
  unfold wpX_closure
  dsimp only
  refine sd_everyW hn ?_
  refine sd_loop (fun f i acc => wX_closure_7 post (nI s) (nI n) c1 (nI m) c3 a1 a2 a3 a4 a5 f (nI acc) (nI i)) (fun i acc => ∀ k, k < n → (acc.testBit k = true ↔ ∀ j, j < i → sd_sub s (ws j) → (ws j).testBit k = true)) m ?_ (2 ^ n - 1) (fun k hk => ⟨fun _ j hj => absurd hj (by omega), fun _ => by rw [Nat.testBit_two_pow_sub_one, decide_eq_true hk]⟩)
  intro f i acc hi hI hk
  refine pk_le m i (fun z => H acc ?_) (fun z => ⟨pk_in i 2048 (by omega), ?_⟩)
  · have : i = m := by omega
    subst this
    exact hI
  · rw [nI_clamp (show i < 2 ^ 31 by omega), h4 i z]
    refine ek_if (sd_subI hs) (fun g => ⟨pk_in i 2048 (by omega), nm_r (sd_and acc (ws i)) (nm_r (nI_1 i) (hk (acc &&& ws i) z (fun k hk => ?_)))⟩) (fun g => nm_r (nI_1 i) (hk acc z (fun k hk => ?_)))
    · rw [Nat.testBit_and, Bool.and_eq_true, hI k hk]
      exact ⟨fun t => lt_s t.1 (fun _ => t.2), fun t => ⟨fun j hj => t j (by omega), t i (by omega) g⟩⟩
    · rw [hI k hk]
      exact ⟨fun t => lt_s t (fun z => absurd z g), fun t j hj => t j (by omega)⟩
theorem sd_follows {post : Int32 → St1 → Prop} {n c : Nat} {p : Int32} {kd lf rt : Nat → Nat} {u : St1} (h : sd_S n kd lf rt u) (hc : c < n)
    (H : ∀ (v : Bool) (u' : St1), sd_K n kd lf rt u' → (v = true ↔ sd_ent n kd lf rt (sd_ask p n) c) → post (sd_b v) u') : wpX_follows post u p (nI c) := by
  have h0 := h
  obtain ⟨hw, kn, fo, hu, a1, a2, a3, a4, a5, rfl, hm, hl⟩ := h
  have hn := hw.1
  have hp := sd_p2 hn
  have ha := sd_ask_lt p n
  unfold wpX_follows
  dsimp only
  refine sd_missing hc hn (br_t rfl (sd_find h0 (fun u' hk => ?_)))
  have hk0 := hk
  obtain ⟨_, kn', fo', hu', b1, b2, b3, b4, b5, rfl, hm', m, ws, rfl, l2, l3, l4⟩ := hk
  dsimp only
  refine sd_everyW hn (nm_r (sd_askI p hn) ?_)
  refine sd_closure hn (by omega) (by omega) (fun j hj => (l3 j hj).1) (fun acc hacc => ?_)
  rw [sd_bitN acc (by omega)]
  refine H _ _ hk0 ((hacc c hc).trans ⟨fun t w hW hs => ?_, fun t j hj hs => t _ (l3 j hj).2 hs⟩)
  obtain ⟨j, hj, rfl⟩ := l4 w hW
  exact t j hj hs
theorem sd_against {post : Int32 → St1 → Prop} {n c : Nat} {p : Int32} {kd lf rt : Nat → Nat} {u : St1} (h : sd_S n kd lf rt u) (hc : c < n)
    (H : ∀ (r : Int32) (u' : St1), sd_K n kd lf rt u' → ((sd_ent n kd lf rt (sd_ask p n) c ∧ r = -4) ∨ (¬ sd_ent n kd lf rt (sd_ask p n) c ∧ ∃ t, t < 2048 ∧ r = nI t)) → post r u') : wpX_against post u p (nI c) := by
  have h0 := h
  obtain ⟨hw, kn, fo, hu, a1, a2, a3, a4, a5, rfl, hm, hl⟩ := h
  have hn := hw.1
  have hp := sd_p2 hn
  have ha := sd_ask_lt p n
  unfold wpX_against
  dsimp only
  refine sd_missing hc hn (br_t rfl (sd_find h0 (fun u' hk => ?_)))
  have hk0 := hk
  obtain ⟨_, kn', fo', hu', b1, b2, b3, b4, b5, rfl, hm', m, ws, rfl, l2, l3, l4⟩ := hk
  dsimp only
  refine sd_everyW hn (nm_r (sd_askI p hn) ?_)
  generalize sd_ask p n = s at ha H ⊢
  refine sd_loop (fun f i x => wX_against_28 post (nI c) (nI s) (nI n) kn' (nI m) hu' b1 b2 b3 b4 b5 f x (nI i)) (fun i x => (x = -4 ∧ ∀ j, j < i → sd_sub s (ws j) → (ws j).testBit c = true) ∨ ∃ j, j < i ∧ x = nI (ws j) ∧ sd_sub s (ws j) ∧ (ws j).testBit c = false) m ?_ (-4) (Or.inl ⟨rfl, fun j hj => absurd hj (by omega)⟩)
  intro f i x hi hI hk
  have step : (sd_sub s (ws i) → (ws i).testBit c = true) → (x = -4 ∧ ∀ j, j < i + 1 → sd_sub s (ws j) → (ws j).testBit c = true) ∨ ∃ j, j < i + 1 ∧ x = nI (ws j) ∧ sd_sub s (ws j) ∧ (ws j).testBit c = false := by
    intro t
    rcases hI with ⟨e, g⟩ | ⟨j, hj, g⟩
    · exact Or.inl ⟨e, lt_s g t⟩
    · exact Or.inr ⟨j, by omega, g⟩
  refine pk_le m i (fun z => H x _ hk0 ?_) (fun z => ⟨pk_in i 2048 (by omega), ?_⟩)
  · rcases hI with ⟨e, g⟩ | ⟨j, hj, e, g1, g2⟩
    · refine Or.inl ⟨fun w hW hs => ?_, e⟩
      obtain ⟨j, hj, rfl⟩ := l4 w hW
      exact g j (by omega) hs
    · have hW := (l3 j (by omega)).2
      refine Or.inr ⟨fun t => ?_, ws j, Nat.lt_of_lt_of_le (sd_W_out hW).1 hp, e⟩
      rw [t (ws j) hW g1] at g2
      exact absurd g2 (by decide)
  · rw [nI_clamp (show i < 2 ^ 31 by omega), (l3 i z).1]
    exact ek_if (sd_subI (by omega)) (fun g => ⟨pk_in i 2048 (by omega), sd_in (by omega) (sd_b0 _ (fun e => ⟨pk_in i 2048 (by omega), nm_e (nm_r (nI_1 i) (hk (nI (ws i)) z (Or.inr ⟨i, by omega, rfl, g, e⟩)))⟩) (fun e => nm_r (nI_1 i) (hk x z (step (fun _ => e)))))⟩) (fun g => nm_r (nI_1 i) (hk x z (step (fun t => absurd t g))))
theorem sd_gather {post : Int32 → St1 → Prop} {m s c : Nat} {ws : Nat → Nat} {c0 c1 c3 : Int32} {a1 a2 a3 a4 a5 : Nat → Int32} (hc : c < 32) (hs : s < 2048) (hm : m ≤ 2048) (h4 : ∀ j, j < m → a4 j = nI (ws j))
    (H : ∀ (v : Bool) (h : Nat) (b5 : Nat → Int32), h ≤ m → (v = true ↔ ∀ j, j < m → (ws j).testBit c = false → ¬ sd_sub s (ws j)) → post (sd_b v) (c0, c1, nI m, nI h, a1, a2, a3, a4, b5)) : wpX_gather post (c0, c1, nI m, c3, a1, a2, a3, a4, a5) (nI s) (nI c) := by
  refine sd_loop (σ := Bool × Nat × (Nat → Int32)) (fun f i q => wX_gather_10 post (nI s) (nI c) c0 c1 (nI m) f (sd_b q.1) (nI i) (nI q.2.1) a1 a2 a3 a4 q.2.2) (fun i q => q.2.1 ≤ i ∧ (q.1 = true ↔ ∀ j, j < i → (ws j).testBit c = false → ¬ sd_sub s (ws j))) m ?_ (true, 0, a5) ⟨Nat.le_refl 0, fun _ j hj => absurd hj (by omega), fun _ => rfl⟩
  intro f i q hi hI hk
  obtain ⟨v, h, b5⟩ := q
  obtain ⟨i1, i2⟩ := hI
  dsimp only at i1 i2
  have F : ∀ b, ((ws i).testBit c = false ∧ sd_sub s (ws i)) ∨ v = false → i < m → wX_gather_10 post (nI s) (nI c) c0 c1 (nI m) f (sd_b false) (nI (i + 1)) (nI (h + 1)) a1 a2 a3 a4 b := by
    intro b hb z
    refine hk (false, h + 1, b) z ⟨by show h + 1 ≤ i + 1; omega, fun t => absurd (show false = true from t) (by decide), fun t => ?_⟩
    rcases hb with g | g
    · exact absurd g.2 (t i (by omega) g.1)
    · rw [i2.mpr (fun j hj => t j (by omega))] at g
      exact absurd g (by decide)
  refine pk_le m i (fun z => ⟨sd_nar v, H v h b5 (by omega) ?_⟩) (fun z => ⟨pk_in i 2048 (by omega), ?_⟩)
  · have : i = m := by omega
    subst this
    exact i2
  · rw [nI_clamp (show i < 2 ^ 31 by omega), h4 i z]
    have hd := sd_dif_le s (ws i)
    refine sd_in hc (sd_b0 _ (fun e => ⟨pk_in i 2048 (by omega), pk_in h 2048 (by omega), nm_r (e' := upd b5 h (nI (sd_dif s (ws i)))) (by rw [nI_clamp (show h < 2 ^ 31 by omega), sd_difI, sd_16 _ (by omega)]) ?_⟩) (fun e => nm_r (nI_1 i) (hk (v, h, b5) z ⟨by show h ≤ i + 1; omega, i2.trans ⟨fun t => lt_s t (fun g => absurd g (by rw [e]; decide)), fun t j hj => t j (by omega)⟩⟩)))
    rw [nI_clamp (show h < 2 ^ 31 by omega), pk_us]
    refine sd_b0 v (fun hv => nm_r (nI_1 h) (nm_r (nI_1 i) (F _ (Or.inr hv) z))) (fun hv => ⟨pk_in h 2048 (by omega), pk_eq (sd_dif s (ws i)) 0 (fun d => nm_r (nI_1 h) (nm_r (nI_1 i) (F _ (Or.inl ⟨e, (sd_dif0 (by omega)).mp d⟩) z))) (fun d => nm_r (nI_1 h) (nm_r (nI_1 i) (hk (true, h + 1, upd b5 h (nI (sd_dif s (ws i)))) z ⟨by show h + 1 ≤ i + 1; omega, fun _ => lt_s (i2.mp hv) (fun _ t => d ((sd_dif0 (by omega)).mpr t)), fun _ => rfl⟩)))⟩)
theorem sd_sizeOf {post : Int32 → Prop} {n s : Nat} {c1 c2 c3 : Int32} {a1 a2 a3 a4 a5 : Nat → Int32} (hn : n ≤ 11) (H : post (nI (sd_cnt s n))) : wpX_sizeOf post (nI n, c1, c2, c3, a1, a2, a3, a4, a5) (nI s) := by
  refine sd_loop (σ := Unit) (fun f i _ => wX_sizeOf_4 post (nI s) (nI n) c1 c2 c3 a1 a2 a3 a4 a5 f (nI (sd_cnt s i)) (nI i)) (fun _ _ => True) n ?_ () trivial
  intro f i _ hi _ hk
  refine pk_le n i (fun z => ?_) (fun z => nm_r (e' := nI (sd_cnt s (i + 1))) (by rw [sd_bitN s (by omega), sd_cntI]) (nm_r (nI_1 i) (hk () z trivial)))
  have : i = n := by omega
  subst this
  exact H
theorem sd_meets {post : Int32 → Prop} {h : Nat} {x c0 c1 c2 : Int32} {a1 a2 a3 a4 a5 : Nat → Int32} (hh : h ≤ 2048) (H : ∀ v : Bool, post (sd_b v)) : wpX_meetsAll post (c0, c1, c2, nI h, a1, a2, a3, a4, a5) x := by
  refine sd_loop (fun f i v => wX_meetsAll_4 post x c0 c1 c2 (nI h) a1 a2 a3 a4 a5 f (sd_b v) (nI i)) (fun _ _ => True) h ?_ true trivial
  intro f i v hi _ hk
  exact pk_le h i (fun z => ⟨sd_nar v, H v⟩) (fun z => sd_b0 v (fun _ => ⟨sd_nar v, H v⟩) (fun _ => ⟨pk_in i 2048 (by omega), br_c (fun _ => nm_r (nI_1 i) (hk false z trivial)) (fun _ => nm_r (nI_1 i) (hk true z trivial))⟩))
theorem sd_less {p A : Nat} (h : 0 < p) : (nI p - 1) &&& nI A = nI ((p - 1) &&& A) := by
  obtain ⟨q, rfl⟩ : ∃ q, p = q + 1 := ⟨p - 1, by omega⟩
  rw [nI_pred, sd_and]
  rfl
theorem sd_enough {post : Int32 → St1 → Prop} {n c : Nat} {p : Int32} {kd lf rt : Nat → Nat} {u : St1} (h : sd_S n kd lf rt u) (hc : c < n)
    (H : ∀ (r : Int32) (u' : St1), sd_K n kd lf rt u' → ((sd_ent n kd lf rt (sd_ask p n) c ∧ ∃ b, b ≤ sd_cnt (sd_ask p n) n ∧ r = nI b) ∨ (¬ sd_ent n kd lf rt (sd_ask p n) c ∧ r = -4)) → post r u') : wpX_enough post u p (nI c) := by
  have h0 := h
  obtain ⟨hw, kn, fo, hu, a1, a2, a3, a4, a5, rfl, hm, hl⟩ := h
  have hn := hw.1
  have hp := sd_p2 hn
  have ha := sd_ask_lt p n
  unfold wpX_enough
  dsimp only
  refine sd_missing hc hn (br_t rfl (sd_find h0 (fun u' hk => ?_)))
  obtain ⟨_, kn', fo', hu', b1, b2, b3, b4, b5, rfl, hm', m, ws, rfl, l2, l3, l4⟩ := hk
  dsimp only
  refine sd_everyW hn (nm_r (sd_askI p hn) ?_)
  generalize sd_ask p n = s at ha H ⊢
  refine sd_gather (by omega) (by omega) (by omega) (fun j hj => (l3 j hj).1) (fun v h d5 hh hv => ?_)
  have hk0 : sd_K n kd lf rt (nI n, kn', nI m, nI h, b1, b2, b3, b4, d5) := ⟨hw, _, _, _, _, _, _, _, _, rfl, hm', m, ws, rfl, l2, l3, l4⟩
  dsimp only
  refine sd_b0 v (fun e => H _ _ hk0 (Or.inr ⟨fun t => ?_, rfl⟩)) (fun e => ?_)
  · have : v = true := hv.mpr (fun j hj hb hs => by
      rw [t (ws j) (l3 j hj).2 hs] at hb
      exact absurd hb (by decide))
    rw [this] at e
    exact absurd e (by decide)
  · have ent : sd_ent n kd lf rt s c := by
      intro w hW hs
      obtain ⟨j, hj, rfl⟩ := l4 w hW
      cases hb : (ws j).testBit c with
      | true => rfl
      | false => exact absurd hs (hv.mp e j hj hb)
    refine sd_sizeOf hn ?_
    refine loop_m (σ := Nat × Nat) (fun f q => wX_enough_47 post (nI s) (nI n) kn' (nI m) (nI h) b1 b2 b3 b4 d5 f (nI q.1) (nI q.2)) (fun q => q.1 ≤ sd_cnt s n ∧ q.2 < 2048) (fun q => q.2) ?_ (sd_cnt s n, s) ⟨Nat.le_refl _, by show s < 2048; omega⟩
    intro f q hI hk
    obtain ⟨best, r⟩ := q
    obtain ⟨i1, i2⟩ := hI
    dsimp only at i1 i2 hk
    have hb := sd_cnt_le s n
    have hr := sd_cnt_le r n
    refine pk_le r 0 (fun z => br_c (fun _ => H _ _ hk0 (Or.inl ⟨ent, 0, by omega, rfl⟩)) (fun _ => H _ _ hk0 (Or.inl ⟨ent, best, i1, rfl⟩))) (fun z => sd_sizeOf hn ?_)
    have hlt : (r - 1) &&& s ≤ r - 1 := Nat.and_le_left
    have g1 : wX_enough_47 post (nI s) (nI n) kn' (nI m) (nI h) b1 b2 b3 b4 d5 f (nI best) (nI ((r - 1) &&& s)) := hk (best, (r - 1) &&& s) ⟨i1, by show (r - 1) &&& s < 2048; omega⟩ (by show (r - 1) &&& s < r; omega)
    refine pk_le best (sd_cnt r n) (fun g => nm_r (sd_less z) g1) (fun g => sd_meets (by omega) (fun v => sd_b0 v (fun _ => nm_r (sd_less z) g1) (fun _ => nm_r (sd_less z) (hk (sd_cnt r n, (r - 1) &&& s) ⟨by show sd_cnt r n ≤ sd_cnt s n; omega, by show (r - 1) &&& s < 2048; omega⟩ (by show (r - 1) &&& s < r; omega)))))
end
section
/-! ===== trueFor, classically ===== -/
/-- one formula more: its truth is put into the set -/
theorem sd_V_ext {n ch i s s' : Nat} {kd lf rt : Nat → Nat} (hw : sd_Wf n kd lf rt) (hi : i < n) (hb : ∀ j, j < i → s'.testBit j = s.testBit j)
    (h : ∀ j, j < i → s.testBit j = sd_v1 (kd j) (ch.testBit (lf j)) (s.testBit (lf j)) (s.testBit (rt j))) (hi' : s'.testBit i = sd_v1 (kd i) (ch.testBit (lf i)) (s.testBit (lf i)) (s.testBit (rt i))) :
    ∀ j, j < i + 1 → s'.testBit j = sd_v1 (kd j) (ch.testBit (lf j)) (s'.testBit (lf j)) (s'.testBit (rt j)) := by
  intro j hj
  obtain ⟨w1, _, _, w4, _⟩ := hw.2.1 j (by omega)
  have e : sd_v1 (kd j) (ch.testBit (lf j)) (s'.testBit (lf j)) (s'.testBit (rt j)) = sd_v1 (kd j) (ch.testBit (lf j)) (s.testBit (lf j)) (s.testBit (rt j)) :=
    sd_v_lo _ _ _ _ _ (fun hk => hb _ (by have := (w4 hk).1; omega)) (fun hk => hb _ (by have := (w4 hk).2; omega))
  rw [e]
  by_cases ej : j = i
  · rw [ej, hi']
  · rw [hb j (by omega), h j (by omega)]
theorem sd_trueFor {post : Int32 → Prop} {n ch : Nat} {kd lf rt : Nat → Nat} {c1 c2 c3 : Int32} {a1 a2 a3 a4 a5 : Nat → Int32} (hw : sd_Wf n kd lf rt) (hm : sd_M n kd lf rt a1 a2 a3)
    (H : ∀ s, s < 2 ^ n → sd_V n kd lf rt ch s → post (nI s)) : wpX_trueFor post (nI n, c1, c2, c3, a1, a2, a3, a4, a5) (nI ch) := by
  refine sd_loop (fun f i s => wX_trueFor_4 post (nI ch) (nI n) c1 c2 c3 a1 a2 a3 a4 a5 f (nI s) (nI i)) (fun i s => s < 2 ^ i ∧ ∀ j, j < i → s.testBit j = sd_v1 (kd j) (ch.testBit (lf j)) (s.testBit (lf j)) (s.testBit (rt j))) n ?_ 0 ⟨by decide, fun j hj => absurd hj (by omega)⟩
  intro f i s hi hI hk
  have hn := hw.1
  refine pk_le n i (fun z => ?_) (fun z => ⟨pk_in i 11 (by omega), ?_⟩)
  · have : i = n := by omega
    subst this
    exact H s hI.1 hI.2
  · obtain ⟨w1, w2, w3, w4, w5⟩ := hw.2.1 i z
    obtain ⟨m1, m2, m3⟩ := hm i z
    have E : ∀ t : Bool, t = sd_v1 (kd i) (ch.testBit (lf i)) (s.testBit (lf i)) (s.testBit (rt i)) → wX_trueFor_153 post (wX_trueFor_4 post (nI ch) (nI n) c1 c2 c3 a1 a2 a3 a4 a5 f) (nI ch) (nI s) (nI i) (sd_b t) (nI n) c1 c2 c3 a1 a2 a3 a4 a5 := by
      intro t et
      refine sd_b0 t (fun e => nm_r (nI_1 i) (hk s z ⟨sd_lt_s hI.1, sd_V_ext hw z (fun j hj => rfl) hI.2 ?_⟩)) (fun e => nm_r (e' := nI (s ||| 2 ^ i)) (by rw [sd_shl i (by omega), sd_or]) (nm_r (nI_1 i) (hk (s ||| 2 ^ i) z ⟨sd_or_lt hI.1, sd_V_ext hw z (fun j hj => sd_or_lo (by omega)) hI.2 ?_⟩)))
      · rw [sd_hi hI.1 (Nat.le_refl i), ← et, e]
      · rw [sd_or_at, ← et, e]
    rw [nI_clamp (show i < 2 ^ 31 by omega), m1, m2, m3]
    refine sd_in (by omega) ⟨pk_in i 11 (by omega), sd_in (by omega) ⟨pk_in i 11 (by omega), ?_⟩⟩
    have D : ch.testBit (lf i) = ch.testBit (lf i) := rfl
    clear m1 m2 m3 w4 w5
    refine pk_eq (kd i) 3 (fun e => ⟨pk_in i 11 (by omega), sd_in (by omega) (E _ (by rw [e]; rfl))⟩) (fun e3 => ⟨pk_in i 11 (by omega), ?_⟩)
    generalize ch.testBit (lf i) = t at E
    generalize s.testBit (lf i) = a at E ⊢
    generalize s.testBit (rt i) = b at E ⊢
    generalize wX_trueFor_4 post (nI ch) (nI n) c1 c2 c3 a1 a2 a3 a4 a5 f = J at E ⊢
    generalize kd i = k at E w1 e3 ⊢
    refine pk_eq k 0 (fun e => ?_) (fun e0 => ⟨pk_in i 11 (by omega), pk_eq k 1 (fun e => ?_) (fun e1 => ⟨pk_in i 11 (by omega), pk_eq k 2 (fun e => ?_) (fun e2 => ?_)⟩)⟩)
    · subst e
      exact sd_b0 a (fun ha => E false (by cases a <;> cases b <;> first | contradiction | rfl)) (fun ha => sd_b0 b (fun hb => E false (by cases a <;> cases b <;> first | contradiction | rfl)) (fun hb => E true (by cases a <;> cases b <;> first | contradiction | rfl)))
    · subst e
      exact sd_b0 a (fun ha => sd_b0 b (fun hb => E false (by cases a <;> cases b <;> first | contradiction | rfl)) (fun hb => E true (by cases a <;> cases b <;> first | contradiction | rfl))) (fun ha => E true (by cases a <;> cases b <;> first | contradiction | rfl))
    · subst e
      exact sd_b0 a (fun ha => E true (by cases a <;> cases b <;> first | contradiction | rfl)) (fun ha => sd_b0 b (fun hb => E false (by cases a <;> cases b <;> first | contradiction | rfl)) (fun hb => E true (by cases a <;> cases b <;> first | contradiction | rfl)))
    · have e4 : k = 4 := by omega
      subst e4
      exact E false rfl
theorem sd_classically {post : Int32 → Prop} {n c : Nat} {p : Int32} {kd lf rt : Nat → Nat} {u : St1} (h : sd_S n kd lf rt u) (hc : c < n)
    (H : ∀ v : Bool, (v = true ↔ sd_cla n kd lf rt (sd_ask p n) c) → post (sd_b v)) : wpX_classically post u p (nI c) := by
  obtain ⟨hw, kn, fo, hu, a1, a2, a3, a4, a5, rfl, hm, hl⟩ := h
  have hn := hw.1
  have hp := sd_p2 hn
  have ha := sd_ask_lt p n
  unfold wpX_classically
  dsimp only
  refine sd_missing hc hn (br_t rfl (sd_everyW hn (nm_r (sd_askI p hn) ?_)))
  generalize sd_ask p n = s at ha H ⊢
  refine sd_loop (fun f i v => wX_classically_23 post (nI c) (nI s) (nI n) kn fo hu a1 a2 a3 a4 a5 f (sd_b v) (nI i)) (fun i v => v = true ↔ ∀ ch, ch < i → ∀ t, t < 2 ^ n → sd_V n kd lf rt ch t → sd_sub s t → t.testBit c = true) 16 ?_ true ⟨fun _ j hj => absurd hj (by omega), fun _ => rfl⟩
  intro f i v hi hI hk
  refine pk_le 16 i (fun z => ?_) (fun z => sd_trueFor hw hm (fun t ht hV => ?_))
  · have e16 : i = 16 := by omega
    rw [e16] at hI
    have := H v hI
    cases v
    · exact br_t rfl this
    · exact br_f (by decide) this
  · have T : (v = true → sd_sub s t → t.testBit c = true) → v = true → wX_classically_23 post (nI c) (nI s) (nI n) kn fo hu a1 a2 a3 a4 a5 f (sd_b true) (nI (i + 1)) := by
      intro g hv
      refine hk true z ⟨fun _ => lt_s (hI.mp hv) (fun t' ht' hV' hs => ?_), fun _ => rfl⟩
      rw [sd_V_uniq hw ht' ht hV' hV] at hs ⊢
      exact g hv hs
    have F : (v = true → sd_sub s t ∧ t.testBit c = false) → wX_classically_23 post (nI c) (nI s) (nI n) kn fo hu a1 a2 a3 a4 a5 f (sd_b false) (nI (i + 1)) := by
      intro g
      refine hk false z ⟨fun x => absurd x (by decide), fun x => ?_⟩
      obtain ⟨g1, g2⟩ := g (hI.mpr (fun ch hch => x ch (by omega)))
      rw [x i (by omega) t ht hV g1] at g2
      exact absurd g2 (by decide)
    refine sd_b0 v (fun hv => nm_r (nI_1 i) (F (fun g => absurd (hv.symm.trans g) (by decide)))) (fun hv => ek_if (sd_subI (by omega)) (fun g => sd_in (by omega) (sd_b0 _ (fun e => nm_r (nI_1 i) (F (fun _ => ⟨g, e⟩))) (fun e => nm_r (nI_1 i) (T (fun _ _ => e) hv)))) (fun g => nm_r (nI_1 i) (T (fun _ x => absurd x g) hv)))
end
section
/-! ===== put, falsum, join, atom, drop ===== -/
def sd_T (u : St1) : Prop := ∃ (n : Nat) (kd lf rt : Nat → Nat), sd_S n kd lf rt u
def sd_up (f : Nat → Nat) (k x : Nat) : Nat → Nat := fun j => if j = k then x else f j
theorem sd_up_s (f : Nat → Nat) (k x : Nat) : sd_up f k x k = x := if_pos rfl
theorem sd_up_n {f : Nat → Nat} {k x j : Nat} (h : j ≠ k) : sd_up f k x j = f j := if_neg h
/-- the new picture goes on from the old one; o is the formula that was asked for -/
def sd_E (n : Nat) (kd lf rt : Nat → Nat) (n' : Nat) (kd' lf' rt' : Nat → Nat) (o : Nat) : Prop := (∀ k, k < n → kd' k = kd k ∧ lf' k = lf k ∧ rt' k = rt k) ∧ ((o < n ∧ n' = n) ∨ (o = n ∧ n' = n + 1))
theorem sd_put {post : Int32 → St1 → Prop} {n w a b : Nat} {kd lf rt : Nat → Nat} {u : St1} (h : sd_S n kd lf rt u) (hw4 : w ≤ 4) (ha : a < 11) (hb : b < 11) (hc : w ≤ 2 → a < n ∧ b < n) (hd : w = 3 → a < 4 ∧ b = 0)
    (H1 : n = 11 → post (-2) u)
    (H2 : ∀ (o n' : Nat) (kd' lf' rt' : Nat → Nat) (u' : St1), sd_S n' kd' lf' rt' u' → sd_E n kd lf rt n' kd' lf' rt' o → kd' o = w → lf' o = a → rt' o = b → post (nI o) u') : wpX_put post u (nI w) (nI a) (nI b) := by
  have h0 := h
  obtain ⟨hw, kn, fo, hu, a1, a2, a3, a4, a5, rfl, hm, hl⟩ := h
  have hn := hw.1
  refine sd_loop (σ := Unit) (fun f i _ => wX_put_3 post (nI w) (nI a) (nI b) (nI n) kn fo hu a1 a2 a3 a4 a5 f (nI i)) (fun i _ => ∀ j, j < i → ¬ (kd j = w ∧ lf j = a ∧ rt j = b)) n ?_ () (fun j hj => absurd hj (by omega))
  intro f i _ hi hI hk
  refine pk_le n i (fun z => pk_eq n 11 (fun g => H1 g) (fun g => ⟨pk_in n 11 (by omega), nm_r (e' := upd a1 n (nI w)) (by rw [nI_clamp (show n < 2 ^ 31 by omega), sd_8 w (by omega)])
      ⟨pk_in n 11 (by omega), nm_r (e' := upd a2 n (nI a)) (by rw [nI_clamp (show n < 2 ^ 31 by omega), sd_8 a (by omega)])
      ⟨pk_in n 11 (by omega), nm_r (e' := upd a3 n (nI b)) (by rw [nI_clamp (show n < 2 ^ 31 by omega), sd_8 b (by omega)]) (nm_r (nI_1 n) ?_)⟩⟩⟩)) (fun z => ⟨pk_in i 11 (by omega), ?_⟩)
  · have ei : i = n := by omega
    subst ei
    rw [nI_pred]
    refine H2 i (i + 1) (sd_up kd i w) (sd_up lf i a) (sd_up rt i b) _ ⟨⟨by omega, fun j hj => ?_, fun j l hj hl e1 e2 e3 => ?_⟩, 0, fo, hu, upd a1 i (nI w), upd a2 i (nI a), upd a3 i (nI b), a4, a5, rfl, fun j hj => ?_, Or.inl rfl⟩ ⟨fun k hk => ?_, Or.inr ⟨rfl, rfl⟩⟩ (sd_up_s _ _ _) (sd_up_s _ _ _) (sd_up_s _ _ _)
    · by_cases ej : j = i
      · rw [ej, sd_up_s, sd_up_s, sd_up_s]
        exact ⟨hw4, ha, hb, hc, hd⟩
      · rw [sd_up_n ej, sd_up_n ej, sd_up_n ej]
        exact hw.2.1 j (by omega)
    · by_cases ej : j = i
      · by_cases el : l = i
        · rw [ej, el]
        · rw [ej, sd_up_s, sd_up_n el] at e1 e2 e3
          exact absurd ⟨e1.symm, e2.symm, e3.symm⟩ (hI l (by omega))
      · by_cases el : l = i
        · rw [el, sd_up_s, sd_up_n ej] at e1 e2 e3
          exact absurd ⟨e1, e2, e3⟩ (hI j (by omega))
        · rw [sd_up_n ej, sd_up_n el] at e1 e2 e3
          exact hw.2.2 j l (by omega) (by omega) e1 e2 e3
    · by_cases ej : j = i
      · rw [ej, sd_up_s, sd_up_s, sd_up_s, pk_us, pk_us, pk_us]
        exact ⟨rfl, rfl, rfl⟩
      · rw [sd_up_n ej, sd_up_n ej, sd_up_n ej, pk_un ej, pk_un ej, pk_un ej]
        exact hm j (by omega)
    · have ek : k ≠ i := by omega
      rw [sd_up_n ek, sd_up_n ek, sd_up_n ek]
      exact ⟨rfl, rfl, rfl⟩
  · obtain ⟨w1, w2, w3, w4, w5⟩ := hw.2.1 i z
    obtain ⟨m1, m2, m3⟩ := hm i z
    rw [nI_clamp (show i < 2 ^ 31 by omega), m1, m2, m3]
    exact pk_eq (kd i) w (fun e1 => ⟨pk_in i 11 (by omega), pk_eq (lf i) a (fun e2 => ⟨pk_in i 11 (by omega), pk_eq (rt i) b (fun e3 => H2 i n kd lf rt _ h0 ⟨fun k hk => ⟨rfl, rfl, rfl⟩, Or.inl ⟨z, rfl⟩⟩ e1 e2 e3) (fun e3 => nm_r (nI_1 i) (hk () z (lt_s hI (fun t => e3 t.2.2))))⟩) (fun e2 => nm_r (nI_1 i) (hk () z (lt_s hI (fun t => e2 t.2.1))))⟩) (fun e1 => nm_r (nI_1 i) (hk () z (lt_s hI (fun t => e1 t.1))))
theorem sd_falsum {post : Int32 → St1 → Prop} {n : Nat} {kd lf rt : Nat → Nat} {u : St1} (h : sd_S n kd lf rt u) (H1 : n = 11 → post (-2) u)
    (H2 : ∀ (o n' : Nat) (kd' lf' rt' : Nat → Nat) (u' : St1), sd_S n' kd' lf' rt' u' → sd_E n kd lf rt n' kd' lf' rt' o → kd' o = 4 → lf' o = 0 → rt' o = 0 → post (nI o) u') : wpX_falsum post u := by
  obtain ⟨c0, c1, c2, c3, a1, a2, a3, a4, a5⟩ := u
  unfold wpX_falsum
  dsimp only
  exact sd_put (w := 4) (a := 0) (b := 0) h (by omega) (by omega) (by omega) (fun z => absurd z (by omega)) (fun z => absurd z (by omega)) H1 H2
theorem sd_atom {post : Int32 → St1 → Prop} {n a : Nat} {kd lf rt : Nat → Nat} {u : St1} (h : sd_S n kd lf rt u) (ha : a < 4) (H1 : n = 11 → post (-2) u)
    (H2 : ∀ (o n' : Nat) (kd' lf' rt' : Nat → Nat) (u' : St1), sd_S n' kd' lf' rt' u' → sd_E n kd lf rt n' kd' lf' rt' o → kd' o = 3 → lf' o = a → rt' o = 0 → post (nI o) u') : wpX_atom post u (nI a) := by
  obtain ⟨c0, c1, c2, c3, a1, a2, a3, a4, a5⟩ := u
  unfold wpX_atom
  dsimp only
  refine br_f (nI_pos (by omega)) (pk_lt a 4 (fun _ => ?_) (fun z => absurd z (by omega)))
  exact sd_put (w := 3) (a := a) (b := 0) h (by omega) (by omega) (by omega) (fun z => absurd z (by omega)) (fun _ => ⟨ha, rfl⟩) H1 H2
theorem sd_join {post : Int32 → St1 → Prop} {n w a b : Nat} {kd lf rt : Nat → Nat} {u : St1} (h : sd_S n kd lf rt u) (hw2 : w ≤ 2) (ha : a < n) (hb : b < n) (H1 : n = 11 → post (-2) u)
    (H2 : ∀ (o n' : Nat) (kd' lf' rt' : Nat → Nat) (u' : St1), sd_S n' kd' lf' rt' u' → sd_E n kd lf rt n' kd' lf' rt' o → kd' o = w → lf' o = a → rt' o = b → post (nI o) u') : wpX_join post u (nI w) (nI a) (nI b) := by
  have h0 := h
  obtain ⟨hw, kn, fo, hu, a1, a2, a3, a4, a5, rfl, hm, hl⟩ := h
  have hn := hw.1
  unfold wpX_join
  dsimp only
  refine br_f (nI_pos (by omega)) (pk_lt 2 w (fun z => absurd z (by omega)) (fun _ => sd_missing ha hn (br_t rfl (sd_missing hb hn (br_t rfl ?_)))))
  exact sd_put h0 (by omega) (by omega) (by omega) (fun _ => ⟨ha, hb⟩) (fun z => absurd z (by omega)) H1 H2
theorem sd_drop {post : Int32 → St1 → Prop} {n : Nat} {kd lf rt : Nat → Nat} {u : St1} (h : sd_S (n + 1) kd lf rt u) (H : ∀ u', sd_S n kd lf rt u' → post (nI n) u') : wpX_drop post u := by
  obtain ⟨hw, kn, fo, hu, a1, a2, a3, a4, a5, rfl, hm, hl⟩ := h
  have hn := hw.1
  exact br_f (nI_ne0 (by omega) (by omega)) (nm_r (nI_pred n) (H _ ⟨⟨by omega, fun i hi => hw.2.1 i (by omega), fun i j hi hj => hw.2.2 i j (by omega) (by omega)⟩, 0, fo, hu, a1, a2, a3, a4, a5, rfl, fun i hi => hm i (by omega), Or.inl rfl⟩))
end
section
/-! ===== fits, parted, doubled ===== -/
theorem sd_size {post : Int32 → Prop} {n : Nat} {c1 c2 c3 : Int32} {a1 a2 a3 a4 a5 : Nat → Int32} (h : post (nI n)) : wpX_size post (nI n, c1, c2, c3, a1, a2, a3, a4, a5) := h
theorem sd_fits {post : Int32 → St1 → Prop} {n c : Nat} {p : Int32} {kd lf rt : Nat → Nat} {u : St1} (h : sd_S n kd lf rt u) (hc : c < n) (H : ∀ u', sd_K n kd lf rt u' → post 1 u') : wpL_fits post u p (nI c) := by
  have h0 := h
  obtain ⟨hw, kn, fo, hu, a1, a2, a3, a4, a5, rfl, hm, hl⟩ := h
  have hn := hw.1
  refine sd_loop (σ := Unit) (fun f i _ => wL_fits_11 post p (nI c) (nI n) (nI n) kn fo hu a1 a2 a3 a4 a5 f (nI (sd_cnt (sd_ask p n) i)) (nI i)) (fun _ _ => True) n ?_ () trivial
  intro f i _ hi _ hk
  refine pk_le n i (fun z => ?_) (fun z => nm_r (e' := nI (sd_cnt (sd_ask p n) (i + 1))) (by rw [sd_bit p (by omega), ← sd_ask_bit p z, sd_cntI]) (nm_r (nI_1 i) (hk () z trivial)))
  have ei : i = n := by omega
  subst ei
  have hcn := sd_cnt_le (sd_ask p i) i
  refine sd_follows h0 hc (fun v1 u1 k1 e1 => ?_)
  have K1 := sd_KS k1
  obtain ⟨d0, d1, d2, d3, b1, b2, b3, b4, b5⟩ := u1
  dsimp only
  refine sd_against K1 hc (fun r2 u2 k2 e2 => ?_)
  have K2 := sd_KS k2
  obtain ⟨d0, d1, d2, d3, b1, b2, b3, b4, b5⟩ := u2
  dsimp only
  refine sd_enough K2 hc (fun r3 u3 k3 e3 => ?_)
  have K3 := sd_KS k3
  obtain ⟨d0, d1, d2, d3, b1, b2, b3, b4, b5⟩ := u3
  dsimp only
  refine sd_b1 v1 (fun z1 => ?_) (fun z1 => ?_)
  · have ent := e1.mp z1
    have q2 : r2 = -4 := by
      rcases e2 with g | g
      · exact g.2
      · exact absurd ent g.1
    have q3 : ∃ b, b ≤ sd_cnt (sd_ask p i) i ∧ r3 = nI b := by
      rcases e3 with g | g
      · exact g.2
      · exact absurd ent g.1
    obtain ⟨b, hb, rfl⟩ := q3
    refine br_t q2 (sd_classically K3 hc (fun v hv => sd_b1 v (fun _ => br_f (nI_pos (by omega)) (br_f (nI_nlt hb (by omega)) (H _ k3))) (fun g => ?_)))
    rw [hv.mpr (sd_ent_cla hw ent)] at g
    exact absurd g (by decide)
  · have nent : ¬ sd_ent i kd lf rt (sd_ask p i) c := fun t => by
      rw [e1.mpr t] at z1
      exact absurd z1 (by decide)
    have q2 : ∃ t, t < 2048 ∧ r2 = nI t := by
      rcases e2 with g | g
      · exact absurd g.1 nent
      · exact g.2
    have q3 : r3 = -4 := by
      rcases e3 with g | g
      · exact absurd g.1 nent
      · exact g.2
    obtain ⟨t, ht, rfl⟩ := q2
    exact br_t (by rw [z1]; rfl) (br_f (nI_pos (by omega)) (br_t q3 (H _ k3)))
theorem sd_p47 {post : Int32 → St1 → Prop} {n o n' : Nat} {kd lf rt : Nat → Nat} {c0 c1 c2 c3 : Int32} {a1 a2 a3 a4 a5 : Nat → Int32} (h : sd_S n' kd lf rt (c0, c1, c2, c3, a1, a2, a3, a4, a5)) (hn : n < 11) (ho : (o < n ∧ n' = n) ∨ (o = n ∧ n' = n + 1))
    (H : ∀ u', sd_S n kd lf rt u' → post 1 u') : wL_parted_47 post (nI n) (nI o) c0 c1 c2 c3 a1 a2 a3 a4 a5 := by
  unfold wL_parted_47
  refine pk_lt o n (fun z => ?_) (fun z => ?_)
  · rcases ho with ⟨_, e⟩ | ⟨e, _⟩
    · rw [e] at h
      exact H _ h
    · omega
  · rcases ho with ⟨e, _⟩ | ⟨_, e⟩
    · omega
    · rw [e] at h
      refine sd_drop h (fun u' h' => ?_)
      obtain ⟨d0, d1, d2, d3, b1, b2, b3, b4, b5⟩ := u'
      exact br_t rfl (H _ h')
theorem sd_parted {post : Int32 → St1 → Prop} {n i j : Nat} {kd lf rt : Nat → Nat} {u : St1} (h : sd_S n kd lf rt u) (hn : n < 11) (hi : i < n) (hj : j < n)
    (H : ∀ (kd' lf' rt' : Nat → Nat) (u' : St1), sd_S n kd' lf' rt' u' → post 1 u') : wpL_parted post u (nI i) (nI j) := by
  have h0 := h
  obtain ⟨hw, kn, fo, hu, a1, a2, a3, a4, a5, rfl, hm, hl⟩ := h
  unfold wpL_parted
  dsimp only
  refine sd_size ?_
  refine sd_join (w := 1) h0 (by omega) hi hj (fun z => absurd z (by omega)) (fun o n' kd' lf' rt' u' hS hE ko lo ro => ?_)
  have hw' := hS.1
  obtain ⟨hE1, hE2⟩ := hE
  have ho : o < n' := by omega
  have hi' : i < n' := by omega
  have hj' : j < n' := by omega
  obtain ⟨d0, d1, d2, d3, b1, b2, b3, b4, b5⟩ := u'
  dsimp only
  refine sd_follows hS ho (fun v1 u1 k1 e1 => ?_)
  have K1 := sd_KS k1
  obtain ⟨d0, d1, d2, d3, b1, b2, b3, b4, b5⟩ := u1
  dsimp only
  refine sd_b1 v1 (fun z1 => sd_follows K1 hi' (fun v2 u2 k2 e2 => ?_)) (fun z1 => sd_p47 K1 hn hE2 (H _ _ _))
  have K2 := sd_KS k2
  obtain ⟨d0, d1, d2, d3, b1, b2, b3, b4, b5⟩ := u2
  dsimp only
  refine sd_b1 v2 (fun z2 => sd_p47 K2 hn hE2 (H _ _ _)) (fun z2 => sd_follows K2 hj' (fun v3 u3 k3 e3 => ?_))
  have K3 := sd_KS k3
  obtain ⟨d0, d1, d2, d3, b1, b2, b3, b4, b5⟩ := u3
  dsimp only
  refine sd_b1 v3 (fun z3 => sd_p47 K3 hn hE2 (H _ _ _)) (fun z3 => ?_)
  exfalso
  rw [sd_ask0] at e1 e2 e3
  have := sd_disj hw' ho ko (e1.mp z1)
  rw [lo, ro] at this
  rcases this with g | g
  · rw [e2.mpr g] at z2
    exact absurd z2 (by decide)
  · rw [e3.mpr g] at z3
    exact absurd z3 (by decide)
theorem sd_d67 {post : Int32 → St1 → Prop} {n : Nat} {kd lf rt : Nat → Nat} (H : ∀ u', sd_S n kd lf rt u' → post 1 u') : ∀ (d : Nat) (u : St1), sd_S (n + d) kd lf rt u → wL_doubled_67 post (nI n) (d + 1) (nI (n + d)) u.1 u.2.1 u.2.2.1 u.2.2.2.1 u.2.2.2.2.1 u.2.2.2.2.2.1 u.2.2.2.2.2.2.1 u.2.2.2.2.2.2.2.1 u.2.2.2.2.2.2.2.2 := by
  intro d
  induction d with
  | zero =>
    intro u h
    have hn := h.1.1
    exact br_t (nI_le (by omega) (by omega)) (H u h)
  | succ d ih =>
    intro u h
    have hn := h.1.1
    have h' : sd_S (n + d + 1) kd lf rt u := h
    obtain ⟨d0, d1, d2, d3, b1, b2, b3, b4, b5⟩ := u
    refine pk_le (n + d + 1) n (fun z => absurd z (by omega)) (fun z => sd_drop h' (fun u' g => ?_))
    have := ih u' g
    obtain ⟨e0, e1, e2, e3, f1, f2, f3, f4, f5⟩ := u'
    exact br_t (nI_pred (n + d)).symm (nm_r (pk_m1 (n + d)) this)
theorem sd_doubled {post : Int32 → St1 → Prop} {n c : Nat} {kd lf rt : Nat → Nat} {u : St1} (h : sd_S n kd lf rt u) (hn : n < 9) (hc : c < n)
    (H : ∀ (kd' lf' rt' : Nat → Nat) (u' : St1), sd_S n kd' lf' rt' u' → post 1 u') : wpL_doubled post u (nI c) := by
  have h0 := h
  obtain ⟨hw, kn, fo, hu, a1, a2, a3, a4, a5, rfl, hm, hl⟩ := h
  unfold wpL_doubled
  dsimp only
  refine sd_size ?_
  refine sd_falsum h0 (fun z => absurd z (by omega)) (fun f n1 kd1 lf1 rt1 u1 S1 E1 kf lf0 rf0 => ?_)
  obtain ⟨d0, d1, d2, d3, b1, b2, b3, b4, b5⟩ := u1
  obtain ⟨E1a, E1b⟩ := E1
  dsimp only
  refine sd_join (w := 2) S1 (by omega) (by omega) (by omega) (fun z => absurd z (by omega)) (fun nt n2 kd2 lf2 rt2 u2 S2 E2 k2 l2 r2 => ?_)
  obtain ⟨d0, d1, d2, d3, b1, b2, b3, b4, b5⟩ := u2
  obtain ⟨E2a, E2b⟩ := E2
  dsimp only
  refine sd_join (w := 2) S2 (by omega) (by omega) (by omega) (fun z => absurd z (by omega)) (fun tw n3 kd3 lf3 rt3 u3 S3 E3 k3 l3 r3 => ?_)
  obtain ⟨d0, d1, d2, d3, b1, b2, b3, b4, b5⟩ := u3
  obtain ⟨E3a, E3b⟩ := E3
  have hf : f < n3 := by omega
  have hnt : nt < n3 := by omega
  have htw : tw < n3 := by omega
  have kf3 : kd3 f = 4 := by rw [(E3a f (by omega)).1, (E2a f (by omega)).1, kf]
  have G := sd_gliv (c := c) S3.1 hf hnt htw kf3 (by rw [(E3a nt (by omega)).1, k2]) (by rw [(E3a nt (by omega)).2.1, l2]) (by rw [(E3a nt (by omega)).2.2, r2]) k3 l3 r3
  dsimp only
  refine br_f (nI_pos (by omega)) (br_f (nI_pos (by omega)) (br_f (nI_pos (by omega)) (sd_follows S3 htw (fun v1 u4 k4 e1 => ?_))))
  have K4 := sd_KS k4
  obtain ⟨hw4, kn4, fo4, hu4, b1, b2, b3, b4, b5, rfl, _⟩ := k4
  dsimp only
  refine sd_classically K4 (by omega) (fun v2 e2 => ?_)
  rw [sd_ask0] at e1 e2
  have ev : v1 = v2 := by
    rw [Bool.eq_iff_iff]
    exact e1.trans (G.trans e2.symm)
  refine br_t (by rw [ev]) (sd_size ?_)
  obtain ⟨d, rfl⟩ : ∃ d, n3 = n + d := ⟨n3 - n, by omega⟩
  exact ⟨d + 1, sd_d67 (H _ _ _) d _ K4⟩
end
section
/-! ===== the law's entry ===== -/
/-- the loop goes on from every state that has a picture -/
def sd_J (J : Int32 → Int32 → Int32 → Int32 → Int32 → Int32 → (Nat → Int32) → (Nat → Int32) → (Nat → Int32) → (Nat → Int32) → (Nat → Int32) → Prop) (y : Int32) : Prop := ∀ (x2 : Int32) (u : St1), sd_T u → J x2 y u.1 u.2.1 u.2.2.1 u.2.2.2.1 u.2.2.2.2.1 u.2.2.2.2.2.1 u.2.2.2.2.2.2.1 u.2.2.2.2.2.2.2.1 u.2.2.2.2.2.2.2.2
theorem sd_286 {post : Int32 → Prop} {L : Nat} {xs : Nat → Int32} {J : Int32 → Int32 → Int32 → Int32 → Int32 → Int32 → (Nat → Int32) → (Nat → Int32) → (Nat → Int32) → (Nat → Int32) → (Nat → Int32) → Prop} {x2 x8 : Int32} {kc ks k n i : Nat} {kd lf rt : Nat → Nat} {c0 c1 c2 c3 : Int32} {a1 a2 a3 a4 a5 : Nat → Int32} (h : sd_S n kd lf rt (c0, c1, c2, c3, a1, a2, a3, a4, a5)) (hi : ¬ x8 = 0 → i < n) (HJ : sd_J J (nI (k + 2))) : wL_law_286 post L xs J x2 (nI k) (nI n) x8 (nI i) kc ks c0 c1 c2 c3 a1 a2 a3 a4 a5 := by
  have hn := h.1.1
  unfold wL_law_286
  refine br_c (fun z => nm_r (nI_add k 2) (HJ x2 (c0, c1, c2, c3, a1, a2, a3, a4, a5) ⟨n, kd, lf, rt, h⟩)) (fun z => pk_le 9 n (fun g => nm_r (nI_add k 2) (HJ x2 (c0, c1, c2, c3, a1, a2, a3, a4, a5) ⟨n, kd, lf, rt, h⟩)) (fun g => sd_doubled h g (hi z) (fun kd' lf' rt' u' h' => ?_)))
  obtain ⟨d0, d1, d2, d3, b1, b2, b3, b4, b5⟩ := u'
  exact br_f (by decide) (nm_r (nI_add k 2) (HJ x2 _ ⟨n, kd', lf', rt', h'⟩))
theorem sd_261 {post : Int32 → Prop} {L : Nat} {xs : Nat → Int32} {J : Int32 → Int32 → Int32 → Int32 → Int32 → Int32 → (Nat → Int32) → (Nat → Int32) → (Nat → Int32) → (Nat → Int32) → (Nat → Int32) → Prop} {x2 x8 : Int32} {kc ks k n i j : Nat} {kd lf rt : Nat → Nat} {c0 c1 c2 c3 : Int32} {a1 a2 a3 a4 a5 : Nat → Int32} (h : sd_S n kd lf rt (c0, c1, c2, c3, a1, a2, a3, a4, a5)) (hi : ¬ x8 = 0 → i < n) (hj : ¬ x8 = 0 → j < n) (HJ : sd_J J (nI (k + 2))) : wL_law_261 post L xs J x2 (nI k) (nI n) x8 (nI i) (nI j) kc ks c0 c1 c2 c3 a1 a2 a3 a4 a5 := by
  have hn := h.1.1
  unfold wL_law_261
  refine br_c (fun z => sd_286 h hi HJ) (fun z => pk_le 11 n (fun g => sd_286 h hi HJ) (fun g => sd_parted h g (hi z) (hj z) (fun kd' lf' rt' u' h' => ?_)))
  obtain ⟨d0, d1, d2, d3, b1, b2, b3, b4, b5⟩ := u'
  exact br_f (by decide) (sd_286 h' hi HJ)
theorem sd_231 {post : Int32 → Prop} {L : Nat} {xs : Nat → Int32} {J : Int32 → Int32 → Int32 → Int32 → Int32 → Int32 → (Nat → Int32) → (Nat → Int32) → (Nat → Int32) → (Nat → Int32) → (Nat → Int32) → Prop} {x2 x5 x8 : Int32} {kc ks k n i j : Nat} {kd lf rt : Nat → Nat} {c0 c1 c2 c3 : Int32} {a1 a2 a3 a4 a5 : Nat → Int32} (h : sd_S n kd lf rt (c0, c1, c2, c3, a1, a2, a3, a4, a5)) (hi : ¬ x8 = 0 → i < n) (hj : ¬ x8 = 0 → j < n) (HJ : sd_J J (nI (k + 2))) : wL_law_231 post L xs J x2 (nI k) x5 (nI n) x8 (nI i) (nI j) kc ks c0 c1 c2 c3 a1 a2 a3 a4 a5 := by
  unfold wL_law_231
  refine br_c (fun z => sd_261 h hi hj HJ) (fun z => sd_fits h (hi z) (fun u1 k1 => ?_))
  obtain ⟨d0, d1, d2, d3, b1, b2, b3, b4, b5⟩ := u1
  refine br_f (by decide) (sd_fits (sd_KS k1) (hj z) (fun u2 k2 => ?_))
  obtain ⟨d0, d1, d2, d3, b1, b2, b3, b4, b5⟩ := u2
  exact br_f (by decide) (sd_261 (sd_KS k2) hi hj HJ)
theorem sd_rem (x : Int32) {n : Nat} (h0 : 0 < n) (hn : n ≤ 11) : ∃ r, r < n ∧ (x &&& 127) - (x &&& 127) / nI n * nI n = nI r := by
  obtain ⟨q, hq, e⟩ := pk_andE x (m := 127) 7 (by decide)
  exact ⟨q % n, Nat.mod_lt _ h0, by rw [e, pk_rem (by omega) h0 (by omega)]⟩
theorem sd_208 {post : Int32 → Prop} {L : Nat} {xs : Nat → Int32} {J : Int32 → Int32 → Int32 → Int32 → Int32 → Int32 → (Nat → Int32) → (Nat → Int32) → (Nat → Int32) → (Nat → Int32) → (Nat → Int32) → Prop} {x2 x4 x5 x8 : Int32} {kc ks k n i : Nat} {kd lf rt : Nat → Nat} {c0 c1 c2 c3 : Int32} {a1 a2 a3 a4 a5 : Nat → Int32} (h : sd_S n kd lf rt (c0, c1, c2, c3, a1, a2, a3, a4, a5)) (h0 : ¬ x8 = 0 → 0 < n) (hi : ¬ x8 = 0 → i < n) (HJ : sd_J J (nI (k + 2))) : wL_law_208 post L xs J x2 (nI k) x4 x5 (nI n) x8 (nI i) kc ks c0 c1 c2 c3 a1 a2 a3 a4 a5 := by
  have hn := h.1.1
  unfold wL_law_208
  refine pk_le 1 n (fun z => ⟨nI_ne0 z (by omega), ?_⟩) (fun z => sd_231 (j := 0) h hi (fun g => h0 g) HJ)
  obtain ⟨r, hr, e⟩ := sd_rem (x4 >>> ((14 : Int32) &&& 31)) z hn
  rw [e]
  exact sd_231 h hi (fun _ => hr) HJ
theorem sd_187 {post : Int32 → Prop} {L : Nat} {xs : Nat → Int32} {J : Int32 → Int32 → Int32 → Int32 → Int32 → Int32 → (Nat → Int32) → (Nat → Int32) → (Nat → Int32) → (Nat → Int32) → (Nat → Int32) → Prop} {x2 x4 x5 x8 : Int32} {kc ks k n : Nat} {kd lf rt : Nat → Nat} {c0 c1 c2 c3 : Int32} {a1 a2 a3 a4 a5 : Nat → Int32} (h : sd_S n kd lf rt (c0, c1, c2, c3, a1, a2, a3, a4, a5)) (h0 : ¬ x8 = 0 → 0 < n) (HJ : sd_J J (nI (k + 2))) : wL_law_187 post L xs J x2 (nI k) x4 x5 (nI n) x8 kc ks c0 c1 c2 c3 a1 a2 a3 a4 a5 := by
  have hn := h.1.1
  unfold wL_law_187
  refine pk_le 1 n (fun z => ⟨nI_ne0 z (by omega), ?_⟩) (fun z => sd_208 (i := 0) h h0 (fun g => h0 g) HJ)
  obtain ⟨r, hr, e⟩ := sd_rem (x4 >>> ((7 : Int32) &&& 31)) z hn
  rw [e]
  exact sd_208 h h0 (fun _ => hr) HJ
theorem sd_177 {post : Int32 → Prop} {L : Nat} {xs : Nat → Int32} {J : Int32 → Int32 → Int32 → Int32 → Int32 → Int32 → (Nat → Int32) → (Nat → Int32) → (Nat → Int32) → (Nat → Int32) → (Nat → Int32) → Prop} {x2 x4 x5 x8 : Int32} {kc ks k n : Nat} {kd lf rt : Nat → Nat} {c0 c1 c2 c3 : Int32} {a1 a2 a3 a4 a5 : Nat → Int32} (h : sd_S n kd lf rt (c0, c1, c2, c3, a1, a2, a3, a4, a5)) (h0 : ¬ x8 = 0 → 0 < n) (HJ : sd_J J (nI (k + 2))) : wL_law_177 post L xs J x2 (nI k) x4 x5 (nI n) x8 kc ks c0 c1 c2 c3 a1 a2 a3 a4 a5 := by
  unfold wL_law_177
  exact br_c (fun z => sd_187 h h0 HJ) (fun z => nm_e (sd_187 h h0 HJ))
theorem sd_176 {post : Int32 → Prop} {L : Nat} {xs : Nat → Int32} {J : Int32 → Int32 → Int32 → Int32 → Int32 → Int32 → (Nat → Int32) → (Nat → Int32) → (Nat → Int32) → (Nat → Int32) → (Nat → Int32) → Prop} {x2 x4 x5 : Int32} {kc ks k n : Nat} {kd lf rt : Nat → Nat} {c0 c1 c2 c3 : Int32} {a1 a2 a3 a4 a5 : Nat → Int32} (h : sd_S n kd lf rt (c0, c1, c2, c3, a1, a2, a3, a4, a5)) (HJ : sd_J J (nI (k + 2))) : wL_law_176 post L xs J x2 (nI k) x4 x5 (nI n) kc ks c0 c1 c2 c3 a1 a2 a3 a4 a5 := by
  unfold wL_law_176
  exact sd_177 h (fun z => absurd rfl z) HJ
theorem sd_145 {post : Int32 → Prop} {L : Nat} {xs : Nat → Int32} {J : Int32 → Int32 → Int32 → Int32 → Int32 → Int32 → (Nat → Int32) → (Nat → Int32) → (Nat → Int32) → (Nat → Int32) → (Nat → Int32) → Prop} {x2 x4 x5 : Int32} {kc ks k : Nat} {c0 c1 c2 c3 : Int32} {a1 a2 a3 a4 a5 : Nat → Int32} (h : sd_T (c0, c1, c2, c3, a1, a2, a3, a4, a5)) (HJ : sd_J J (nI (k + 2))) : wL_law_145 post L xs J x2 (nI k) x4 x5 kc ks c0 c1 c2 c3 a1 a2 a3 a4 a5 := by
  obtain ⟨n, kd, lf, rt, h⟩ := h
  have h0 := h
  obtain ⟨hw, kn, fo, hu, b1, b2, b3, b4, b5, e, hm, hl⟩ := h
  obtain ⟨rfl, rfl, rfl, rfl, rfl, rfl, rfl, rfl, rfl⟩ : c0 = nI n ∧ c1 = kn ∧ c2 = fo ∧ c3 = hu ∧ a1 = b1 ∧ a2 = b2 ∧ a3 = b3 ∧ a4 = b4 ∧ a5 = b5 := by
    injection e with e1 e
    injection e with e2 e
    injection e with e3 e
    injection e with e4 e
    injection e with e5 e
    injection e with e6 e
    injection e with e7 e
    injection e with e8 e9
    exact ⟨e1, e2, e3, e4, e5, e6, e7, e8, e9⟩
  have hn := hw.1
  unfold wL_law_145
  exact sd_size (pk_le n 0 (fun z => sd_176 h0 HJ) (fun z => br_c (fun _ => br_c (fun _ => sd_176 h0 HJ) (fun _ => sd_177 h0 (fun _ => z) HJ)) (fun _ => sd_176 h0 HJ)))
theorem sd_100 {post : Int32 → Prop} {L : Nat} {xs : Nat → Int32} {J : Int32 → Int32 → Int32 → Int32 → Int32 → Int32 → (Nat → Int32) → (Nat → Int32) → (Nat → Int32) → (Nat → Int32) → (Nat → Int32) → Prop} {x2 x4 x5 x6 : Int32} {kc ks k n : Nat} {kd lf rt : Nat → Nat} {c0 c1 c2 c3 : Int32} {a1 a2 a3 a4 a5 : Nat → Int32} (h : sd_S n kd lf rt (c0, c1, c2, c3, a1, a2, a3, a4, a5)) (HJ : sd_J J (nI (k + 2))) : wL_law_100 post L xs J x2 (nI k) x4 x5 x6 (nI n) kc ks c0 c1 c2 c3 a1 a2 a3 a4 a5 := by
  have hn := h.1.1
  have C := sd_145 (post := post) (L := L) (xs := xs) (x2 := x2) (x4 := x4) (x5 := x5) (kc := kc) (ks := ks) ⟨n, kd, lf, rt, h⟩ HJ
  unfold wL_law_100
  refine br_c (fun _ => C) (fun _ => pk_le n 0 (fun _ => C) (fun z => ⟨by decide, nI_ne0 z (by omega), nI_ne0 z (by omega), ?_⟩))
  obtain ⟨r1, hr1, e1⟩ := sd_rem (x5 >>> ((7 : Int32) &&& 31)) z hn
  obtain ⟨r2, hr2, e2⟩ := sd_rem (x5 >>> ((14 : Int32) &&& 31)) z hn
  obtain ⟨r0, hr0, e0⟩ := sd_rem x5 (n := 3) (by omega) (by omega)
  have e0' : (x5 &&& 127) - (x5 &&& 127) / 3 * 3 = nI r0 := e0
  rw [e1, e2, e0']
  refine sd_join h (by omega) hr1 hr2 (fun _ => C) (fun o n' kd' lf' rt' u' h' _ _ _ _ => ?_)
  obtain ⟨d0, d1, d2, d3, b1, b2, b3, b4, b5⟩ := u'
  exact sd_145 ⟨n', kd', lf', rt', h'⟩ HJ
theorem sd_dropT {post : Int32 → St1 → Prop} {n : Nat} {kd lf rt : Nat → Nat} {u : St1} (h : sd_S n kd lf rt u) (H : ∀ (r : Int32) (u' : St1), sd_T u' → post r u') : wpX_drop post u := by
  cases n with
  | zero =>
    have h0 := h
    obtain ⟨hw, kn, fo, hu, a1, a2, a3, a4, a5, rfl, hm, hl⟩ := h
    exact br_t rfl (H _ _ ⟨0, kd, lf, rt, h0⟩)
  | succ n => exact sd_drop h (fun u' h' => H _ _ ⟨n, kd, lf, rt, h'⟩)
theorem sd_cell {post : Int32 → Prop} {L : Nat} {xs : Nat → Int32} {k : Nat} (hL : L ≤ 260) (hk : k ≤ 1000) (H : ∀ x, post x) : wpL_cell post L xs () (nI k) :=
  pk_le L k (fun _ => H 0) (fun z => ⟨pk_in k L z, H _⟩)
theorem sd_law {L : Nat} {xs : Nat → Int32} {kc ks : Nat} (hL : L ≤ 260) (u : St1) (hu : sd_T u) : ∃ f, wL_law_12 (fun r => r = 1) L xs kc ks f 0 0 u.1 u.2.1 u.2.2.1 u.2.2.2.1 u.2.2.2.2.1 u.2.2.2.2.2.1 u.2.2.2.2.2.2.1 u.2.2.2.2.2.2.2.1 u.2.2.2.2.2.2.2.2 := by
  refine loop_m (σ := Int32 × Nat × St1) (fun f s => wL_law_12 (fun r => r = 1) L xs kc ks f s.1 (nI s.2.1) s.2.2.1 s.2.2.2.1 s.2.2.2.2.1 s.2.2.2.2.2.1 s.2.2.2.2.2.2.1 s.2.2.2.2.2.2.2.1 s.2.2.2.2.2.2.2.2.1 s.2.2.2.2.2.2.2.2.2.1 s.2.2.2.2.2.2.2.2.2.2) (fun s => s.2.1 ≤ L + 1 ∧ sd_T s.2.2) (fun s => L + 2 - s.2.1) ?_ (0, 0, u) ⟨Nat.zero_le _, hu⟩
  clear hu u
  intro f s hI hk
  obtain ⟨x2, k, u⟩ := s
  obtain ⟨i1, n, kd, lf, rt, h⟩ := hI
  dsimp only at i1 hk
  have h0 := h
  obtain ⟨hw, kn, fo, hu, a1, a2, a3, a4, a5, e, hm, hl⟩ := h
  dsimp only at e h0
  subst e
  have hn := hw.1
  show wL_law_12 (fun r => r = 1) L xs kc ks (f + 1) x2 (nI k) (nI n) kn fo hu a1 a2 a3 a4 a5
  refine pk_le L k (fun z => sd_size (pk_eq n 0 (fun _ => rfl) (fun n0 => sd_fits (c := 0) h0 (by omega) (fun u1 k1 => ?_)))) (fun z => sd_cell hL (by omega) (fun c => ?_))
  · obtain ⟨d0, d1, d2, d3, b1, b2, b3, b4, b5⟩ := u1
    have e : nI n - 1 = nI (n - 1) := pk_sub (b := 1) (by omega)
    rw [e]
    refine br_f (by decide) (sd_fits (sd_KS k1) (by omega) (fun u2 k2 => ?_))
    obtain ⟨d0, d1, d2, d3, b1, b2, b3, b4, b5⟩ := u2
    refine br_f (by decide) (pk_lt 8 n (fun _ => rfl) (fun g => sd_doubled (sd_KS k2) (by omega) (by omega) (fun kd' lf' rt' u3 h3 => ?_)))
    obtain ⟨d0, d1, d2, d3, b1, b2, b3, b4, b5⟩ := u3
    exact br_f (by decide) rfl
  · rw [nI_1]
    refine sd_cell hL (by omega) (fun e => ?_)
    obtain ⟨op, hop, eop⟩ := pk_andE c (m := 15) 4 (by decide)
    have HJ : sd_J (wL_law_12 (fun r => r = 1) L xs kc ks f) (nI (k + 2)) := fun x u hT => hk (x, k + 2, u) ⟨by show k + 2 ≤ L + 1; omega, hT⟩ (by show L + 2 - (k + 2) < L + 2 - k; omega)
    clear hk
    refine nm_r eop (sd_size ?_)
    generalize wL_law_12 (fun r => r = 1) L xs kc ks f = J at HJ ⊢
    refine pk_le 3 op (fun z => pk_eq op 3 (fun _ => sd_falsum h0 (fun _ => sd_145 ⟨n, kd, lf, rt, h0⟩ HJ) (fun o n' kd' lf' rt' u' h' _ _ _ _ => ?_)) (fun _ => pk_eq op 4 (fun _ => br_c (fun _ => sd_dropT h0 (fun r u' h' => ?_)) (fun _ => sd_100 h0 HJ)) (fun _ => sd_100 h0 HJ))) (fun z => ?_)
    · obtain ⟨d0, d1, d2, d3, b1, b2, b3, b4, b5⟩ := u'
      exact sd_145 ⟨n', kd', lf', rt', h'⟩ HJ
    · obtain ⟨d0, d1, d2, d3, b1, b2, b3, b4, b5⟩ := u'
      exact sd_145 h' HJ
    · obtain ⟨a, ha, ea⟩ := pk_andE e (m := 3) 2 (by decide)
      rw [ea]
      refine sd_atom h0 (by omega) (fun _ => sd_145 ⟨n, kd, lf, rt, h0⟩ HJ) (fun o n' kd' lf' rt' u' h' _ _ _ _ => ?_)
      obtain ⟨d0, d1, d2, d3, b1, b2, b3, b4, b5⟩ := u'
      exact sd_145 ⟨n', kd', lf', rt', h'⟩ HJ
theorem i_vc (xs : Nat → Int32) (L : Nat) (hL : L ≤ 260) : wpL_law (fun r => r = 1) L xs :=
  ⟨5, 4129, by omega, by omega, by omega, by omega, by omega, by omega, by omega, by omega, by omega, by omega, by omega, by omega,
    sd_law hL (0, 0, 0, 0, fun _ => 0, fun _ => 0, fun _ => 0, fun _ => 0, fun _ => 0) ⟨0, fun _ => 0, fun _ => 0, fun _ => 0, ⟨by omega, fun i hi => absurd hi (by omega), fun i j hi => absurd hi (by omega)⟩, 0, 0, 0, fun _ => 0, fun _ => 0, fun _ => 0, fun _ => 0, fun _ => 0, rfl, fun i hi => absurd hi (by omega), Or.inl rfl⟩⟩
end
