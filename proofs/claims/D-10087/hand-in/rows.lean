section
/-- an array of naturals, as the program holds it -/
def lf_a (V : Nat → Nat) : Nat → Int32 := fun j => nI (V j)
/-- one place written -/
def lf_u (V : Nat → Nat) (k x : Nat) : Nat → Nat := fun j => if j = k then x else V j
theorem lf_us {V : Nat → Nat} {k x : Nat} : lf_u V k x k = x := if_pos rfl
theorem lf_un {V : Nat → Nat} {k x j : Nat} (h : j ≠ k) : lf_u V k x j = V j := if_neg h
theorem lf_upd (V : Nat → Nat) (k x : Nat) : upd (lf_a V) k (nI x) = lf_a (lf_u V k x) := by
  funext j
  show (if j = k then nI x else nI (V j)) = nI (if j = k then x else V j)
  split <;> rfl
theorem lf_updN {V : Nat → Nat} {k x : Nat} {i y : Int32} (hi : i = nI k) (hk : k < 2 ^ 31) (hy : y = nI x) : upd (lf_a V) i.toNatClampNeg y = lf_a (lf_u V k x) := by
  rw [hi, nI_clamp hk, hy]
  exact lf_upd V k x
theorem lf_at {V : Nat → Nat} {i : Int32} {k : Nat} (hi : i = nI k) (hk : k < 2 ^ 31) : lf_a V i.toNatClampNeg = nI (V k) := by
  rw [hi, nI_clamp hk]
  rfl
theorem lf_u_same {V : Nat → Nat} {k x : Nat} (h : V k = x) : lf_u V k x = V := by
  funext j
  by_cases e : j = k
  · rw [e, lf_us, h]
  · exact lf_un e
theorem lf_u_back {V : Nat → Nat} {k x y : Nat} (h : V k = y) : lf_u (lf_u V k x) k y = V := by
  funext j
  by_cases e : j = k
  · rw [e, lf_us, h]
  · rw [lf_un e, lf_un e]
/-- the step to a neighbour -/
def lf_sz (w : Nat) : Nat := if w < 2 then 1 else if w < 4 then 6 else 36
/-- the way back -/
def lf_op (w : Nat) : Nat := if w % 2 = 0 then w + 1 else w - 1
/-- a neighbour cell in one of six directions -/
def lf_nb (c w : Nat) : Option Nat := if w % 2 = 0 then (if 0 < c / lf_sz w % 6 then some (c - lf_sz w) else none) else (if c / lf_sz w % 6 < 5 then some (c + lf_sz w) else none)
theorem lf_nb_tab : ∀ c, c < 216 → ∀ w, w < 6 → (lf_nb c w).all (fun d => decide (d < 216) && (lf_nb d (lf_op w) == some c)) = true := by decide +kernel
theorem lf_op_lt : ∀ w, w < 6 → lf_op w < 6 ∧ lf_op (lf_op w) = w := by decide +kernel
theorem lf_nb_s {c w d : Nat} (hc : c < 216) (hw : w < 6) (h : lf_nb c w = some d) : d < 216 ∧ lf_nb d (lf_op w) = some c := by
  have t := lf_nb_tab c hc w hw
  rw [h] at t
  have t2 : (decide (d < 216) && (lf_nb d (lf_op w) == some c)) = true := t
  rw [Bool.and_eq_true] at t2
  exact ⟨of_decide_eq_true t2.1, eq_of_beq t2.2⟩
/-- the layer of a place: lamplight 0 .., skylight 216 .. -/
def lf_b (p : Nat) : Nat := if p < 216 then 0 else 216
theorem lf_b0 {p : Nat} (h : p < 216) : lf_b p = 0 := if_pos h
theorem lf_b1 {p : Nat} (h : 216 ≤ p) : lf_b p = 216 := if_neg (by omega)
theorem lf_b_or (p : Nat) : (p < 216 ∧ lf_b p = 0) ∨ (216 ≤ p ∧ lf_b p = 216) := by
  by_cases h : p < 216
  · exact Or.inl ⟨h, lf_b0 h⟩
  · exact Or.inr ⟨by omega, lf_b1 (by omega)⟩
/-- two places are neighbours -/
def lf_adj (p q : Nat) : Prop := ∃ w d, w < 6 ∧ lf_nb (p - lf_b p) w = some d ∧ q = lf_b p + d
theorem lf_adj_s {p q : Nat} (hp : p < 432) (h : lf_adj p q) : q < 432 ∧ lf_b q = lf_b p ∧ lf_adj q p := by
  obtain ⟨w, d, hw, hd, hq⟩ := h
  rcases lf_b_or p with ⟨h1, h2⟩ | ⟨h1, h2⟩
  · rw [h2] at hd hq
    obtain ⟨k1, k2⟩ := lf_nb_s (by omega) hw hd
    have hqb : lf_b q = 0 := lf_b0 (by omega)
    refine ⟨by omega, by omega, lf_op w, p - 0, (lf_op_lt w hw).1, ?_, by omega⟩
    rw [hqb, show q - 0 = d by omega]
    exact k2
  · rw [h2] at hd hq
    obtain ⟨k1, k2⟩ := lf_nb_s (by omega) hw hd
    have hqb : lf_b q = 216 := lf_b1 (by omega)
    refine ⟨by omega, by omega, lf_op w, p - 216, (lf_op_lt w hw).1, ?_, by omega⟩
    rw [hqb, show q - 216 = d by omega]
    exact k2
theorem lf_n23 {post : Int32 → Prop} {c w z : Nat} (hc : c < 216) (hw : w < 6) (hz : z = 1 ∨ z = 6 ∨ z = 36)
    (h0 : w % 2 = 0 → c / z % 6 = 0 → post (-1)) (h1 : w % 2 = 0 → 0 < c / z % 6 → post (nI (c - z)))
    (h2 : w % 2 ≠ 0 → 5 ≤ c / z % 6 → post (-1)) (h3 : w % 2 ≠ 0 → c / z % 6 < 5 → post (nI (c + z))) :
    wX_neighbour_23 post (nI c) (nI w) (nI z) := by
  have hm : c / z % 6 < 6 := Nat.mod_lt _ (by omega)
  have hz0 : 0 < z := by omega
  have hz1 : z < 2 ^ 31 := by omega
  have hle : 0 < c / z % 6 → z ≤ c := by
    intro g
    rcases Nat.lt_or_ge c z with k | k
    · rw [Nat.div_eq_of_lt k] at g
      omega
    · exact k
  have hdv : c / z < 2 ^ 31 := Nat.lt_of_le_of_lt (Nat.div_le_self c z) (by omega)
  unfold wX_neighbour_23
  refine ⟨nI_ne0 hz0 hz1, by decide, nm_r (e' := nI (c / z % 6)) ?_ ?_⟩
  · rw [pk_div (by omega) hz0 hz1]
    exact pk_rem (d := 6) hdv (by omega) (by omega)
  · refine pk_eq (w % 2) 0 (fun e => ?_) (fun e => ?_) (pk_andN (by omega) 1 (by decide)) rfl (by omega) (by omega)
    · refine pk_le (c / z % 6) 0 (fun a => h0 e (by omega)) (fun a => ?_) rfl rfl (by omega) (by omega)
      rw [pk_sub (hle a)]
      exact h1 e a
    · refine pk_le 5 (c / z % 6) (fun a => h2 e a) (fun a => ?_) rfl rfl (by omega) (by omega)
      rw [nI_add]
      exact h3 e a
theorem lf_neigh {post : Int32 → Prop} {u : St2} {c w : Nat} (hc : c < 216) (hw : w < 6) (h0 : lf_nb c w = none → post (-1))
    (h1 : ∀ d, d < 216 → lf_nb c w = some d → post (nI d)) : wpX_neighbour post u (nI c) (nI w) := by
  have key : ∀ z, lf_sz w = z → (z = 1 ∨ z = 6 ∨ z = 36) → wX_neighbour_23 post (nI c) (nI w) (nI z) := by
    intro z ez hz
    have e : lf_nb c w = if w % 2 = 0 then (if 0 < c / z % 6 then some (c - z) else none) else (if c / z % 6 < 5 then some (c + z) else none) := by
      rw [← ez]
      rfl
    refine lf_n23 hc hw hz (fun g1 g2 => h0 ?_) (fun g1 g2 => ?_) (fun g1 g2 => h0 ?_) (fun g1 g2 => ?_)
    · rw [e, if_pos g1, if_neg (by omega)]
    · have k : lf_nb c w = some (c - z) := by rw [e, if_pos g1, if_pos g2]
      exact h1 _ (lf_nb_s hc hw k).1 k
    · rw [e, if_neg g1, if_neg (by omega)]
    · have k : lf_nb c w = some (c + z) := by rw [e, if_neg g1, if_pos g2]
      exact h1 _ (lf_nb_s hc hw k).1 k
  unfold wpX_neighbour
  refine pk_le 2 w (fun a => ?_) (fun a => ?_)
  · unfold wX_neighbour_11
    refine pk_le w 3 (fun b => ?_) (fun b => ?_)
    · exact key 6 (by unfold lf_sz; rw [if_neg (by omega), if_pos (by omega)]) (by omega)
    · exact key 36 (by unfold lf_sz; rw [if_neg (by omega), if_neg (by omega)]) (by omega)
  · unfold wX_neighbour_11
    refine pk_le w 3 (fun b => ?_) (fun b => absurd b (by omega))
    exact key 1 (by unfold lf_sz; rw [if_pos (by omega)]) (by omega)
theorem lf_isCell {post : Int32 → Prop} {u : St2} {c : Nat} (hc : c < 216) (h : post 1) : wpX_isCell post u (nI c) := by
  unfold wpX_isCell
  exact br_f (nI_pos (by omega)) (pk_le 216 c (fun z => absurd z (by omega)) (fun _ => h))
theorem lf_notCell {post : Int32 → Prop} {u : St2} {x : Int32} (hx : x < 0 ∨ nI 216 ≤ x) (h : post 0) : wpX_isCell post u x := by
  unfold wpX_isCell
  rcases hx with k | k
  · exact br_t k h
  · exact br_c (fun _ => h) (fun _ => br_t k h)
/-- the law's own neighbour -/
def lf_nr : Option Nat → Int32
  | none => -1
  | some d => nI d
def lf_bs3 (x y z : Int32) : Int32 := if x < 0 then -1 else if 6 ≤ x then -1 else if y < 0 then -1 else if 6 ≤ y then -1 else if z < 0 then -1 else if 6 ≤ z then -1 else ((36 * z) + (6 * y)) + x
def lf_bsF (c s : Int32) : Int32 := lf_bs3 (((c - c / 6 * 6) + (if s = 0 then 1 else 0)) - (if s = 1 then 1 else 0)) ((((c / 6) - (c / 6) / 6 * 6) + (if s = 2 then 1 else 0)) - (if s = 3 then 1 else 0)) (((c / 36) + (if s = 4 then 1 else 0)) - (if s = 5 then 1 else 0))
theorem lf_bs_tab : ∀ c, c < 216 → ∀ s, s < 6 → lf_bsF (nI c) (nI s) = lf_nr (lf_nb c (lf_op s)) := by decide +kernel
theorem lf_bs81 {post : Int32 → Prop} {x y z0 z1 : Int32} (h : post (lf_bs3 x y (z1 - z0))) : wL_beside_81 post x y z0 z1 := by
  unfold wL_beside_81 wL_beside_120 wL_beside_121
  refine nm_e ?_
  unfold lf_bs3 at h
  refine br_c (fun a => ?_) (fun a => br_c (fun b => ?_) (fun b => br_c (fun c => ?_) (fun c => br_c (fun d => ?_) (fun d => br_c (fun e => ?_) (fun e => br_c (fun f => ?_) (fun f => ?_))))))
  · rw [if_pos a] at h
    exact br_t rfl h
  · rw [if_neg a, if_pos b] at h
    exact br_t rfl h
  · rw [if_neg a, if_neg b, if_pos c] at h
    exact br_t rfl h
  · rw [if_neg a, if_neg b, if_neg c, if_pos d] at h
    exact br_t rfl h
  · rw [if_neg a, if_neg b, if_neg c, if_neg d, if_pos e] at h
    exact br_t rfl h
  · rw [if_neg a, if_neg b, if_neg c, if_neg d, if_neg e, if_pos f] at h
    exact br_t rfl h
  · rw [if_neg a, if_neg b, if_neg c, if_neg d, if_neg e, if_neg f] at h
    exact br_f (by decide) h
theorem lf_ifp {c : Prop} {P : Int32 → Prop} [Decidable c] (h : P (if c then 1 else 0)) : (c → P 1) ∧ (¬ c → P 0) :=
  ⟨fun z => by rw [if_pos z] at h; exact h, fun z => by rw [if_neg z] at h; exact h⟩
theorem lf_beside {post : Int32 → Prop} {u : St2} {c s : Int32} (h : post (lf_bsF c s)) : wpL_beside post u c s := by
  unfold wpL_beside
  refine ⟨by decide, lf_ifp (P := fun z => wL_beside_13 post c s z (c - c / 6 * 6)) ?_⟩
  unfold wL_beside_13
  refine lf_ifp (P := fun z => wL_beside_24 post c s z ((c - c / 6 * 6) + (if s = 0 then 1 else 0))) ?_
  unfold wL_beside_24
  refine nm_e ⟨by decide, by decide, lf_ifp (P := fun z => wL_beside_43 post c s _ z _) ?_⟩
  unfold wL_beside_43
  refine lf_ifp (P := fun z => wL_beside_54 post c s _ z _) ?_
  unfold wL_beside_54
  refine nm_e ⟨by decide, lf_ifp (P := fun z => wL_beside_70 post s _ _ z _) ?_⟩
  unfold wL_beside_70
  refine lf_ifp (P := fun z => wL_beside_81 post _ _ z _) ?_
  exact lf_bs81 h
theorem lf_besideN {post : Int32 → Prop} {u : St2} {c s : Nat} (hc : c < 216) (hs : s < 6) (h0 : post (-1)) (h1 : ∀ d, d < 216 → lf_adj c d → lf_adj (216 + c) (216 + d) → post (nI d)) : wpL_beside post u (nI c) (nI s) := by
  refine lf_beside ?_
  rw [lf_bs_tab c hc s hs]
  have hw := (lf_op_lt s hs).1
  cases e : lf_nb c (lf_op s) with
  | none => exact h0
  | some d =>
    have hd := (lf_nb_s hc hw e).1
    refine h1 d hd ⟨lf_op s, d, hw, ?_, ?_⟩ ⟨lf_op s, d, hw, ?_, ?_⟩
    · rw [lf_b0 hc]
      exact e
    · rw [lf_b0 hc]
      omega
    · rw [lf_b1 (by omega), show 216 + c - 216 = c by omega]
      exact e
    · rw [lf_b1 (by omega)]
end
section
/-- what holds of levels V and rims R whenever light has been taken away (o: the place's cell isn't solid; s: its source) -/
def lf_Q (o : Nat → Prop) (s V R : Nat → Nat) : Prop :=
  (∀ p, p < 432 → V p ≤ 12) ∧ (∀ p, p < 432 → R p = 0 → s p ≤ V p) ∧
  (∀ p q, p < 432 → lf_adj p q → o q → R p = 0 → V p ≤ V q + 1) ∧
  (∀ p, p < 432 → V p ≤ s p ∨ (o p ∧ ∃ q, q < 432 ∧ lf_adj q p ∧ V p + 1 ≤ V q)) ∧ (∀ p, p < 432 → R p ≤ 1)
theorem lf_R1 {R : Nat → Nat} {t x : Nat} (h : ∀ p, p < 432 → R p ≤ 1) (hx : x ≤ 1) : ∀ p, p < 432 → lf_u R t x p ≤ 1 := by
  intro p hp
  by_cases e : p = t
  · rw [e, lf_us]
    exact hx
  · rw [lf_un e]
    exact h p hp
/-- inside takeAway: w places wait on the stack K, T; of the place aa the neighbours X aren't looked at yet -/
def lf_P (o : Nat → Prop) (s : Nat → Nat) (aa l : Nat) (X : Nat → Prop) (w : Nat) (V R K T : Nat → Nat) : Prop :=
  (∀ p, p < 432 → V p ≤ 12) ∧ (∀ p, p < 432 → R p = 0 → s p ≤ V p) ∧
  (∀ p q, p < 432 → lf_adj p q → o q → R p = 0 → V p ≤ V q + 1 ∨ (∃ i, i < w ∧ K i = q) ∨ (q = aa ∧ X p)) ∧
  (∀ p, p < 432 → V p ≤ s p ∨ (o p ∧ ∃ q, q < 432 ∧ lf_adj q p ∧ V p + 1 ≤ V q) ∨ (∃ i, i < w ∧ lf_adj (K i) p ∧ V p + 1 ≤ T i) ∨ (X p ∧ V p + 1 ≤ l)) ∧
  (∀ i, i < w → K i < 432 ∧ T i ≤ 12) ∧ (∀ p, p < 432 → R p ≤ 1)
theorem lf_P_in {o : Nat → Prop} {s V R K T : Nat → Nat} {aa l : Nat} {X : Nat → Prop} (h : lf_Q o s V R) : lf_P o s aa l X 0 V R K T := by
  obtain ⟨h1, h2, h3, h4, hr⟩ := h
  refine ⟨h1, h2, fun p q a b c d => Or.inl (h3 p q a b c d), fun p a => ?_, fun i hi => absurd hi (by omega), hr⟩
  rcases h4 p a with k | k
  · exact Or.inl k
  · exact Or.inr (Or.inl k)
theorem lf_P_out {o : Nat → Prop} {s V R K T : Nat → Nat} {aa l : Nat} (h : lf_P o s aa l (fun _ => False) 0 V R K T) : lf_Q o s V R := by
  obtain ⟨h1, h2, h3, h4, h5, hr⟩ := h
  refine ⟨h1, h2, fun p q a b c d => ?_, fun p a => ?_, hr⟩
  · rcases h3 p q a b c d with k | ⟨i, hi, _⟩ | ⟨_, k⟩
    · exact k
    · exact absurd hi (by omega)
    · exact absurd k id
  · rcases h4 p a with k | k | ⟨i, hi, _⟩ | ⟨k, _⟩
    · exact Or.inl k
    · exact Or.inr k
    · exact absurd hi (by omega)
    · exact absurd k id
theorem lf_P_skip {o : Nat → Prop} {s V R K T : Nat → Nat} {aa l w : Nat} {X X' : Nat → Prop} (h : lf_P o s aa l X w V R K T)
    (hX : ∀ p, p < 432 → X p → X' p ∨ V p = 0) : lf_P o s aa l X' w V R K T := by
  obtain ⟨h1, h2, h3, h4, h5, hr⟩ := h
  refine ⟨h1, h2, fun p q a b c d => ?_, fun p a => ?_, h5, hr⟩
  · rcases h3 p q a b c d with k | k | ⟨k1, k2⟩
    · exact Or.inl k
    · exact Or.inr (Or.inl k)
    · rcases hX p a k2 with g | g
      · exact Or.inr (Or.inr ⟨k1, g⟩)
      · exact Or.inl (by omega)
  · rcases h4 p a with k | k | k | ⟨k1, k2⟩
    · exact Or.inl k
    · exact Or.inr (Or.inl k)
    · exact Or.inr (Or.inr (Or.inl k))
    · rcases hX p a k1 with g | g
      · exact Or.inr (Or.inr (Or.inr ⟨g, k2⟩))
      · exact Or.inl (by omega)
theorem lf_P_rim {o : Nat → Prop} {s V R K T : Nat → Nat} {aa l w t : Nat} {X X' : Nat → Prop} (h : lf_P o s aa l X w V R K T)
    (hX : ∀ p, X p → X' p ∨ p = t) (ht : l ≤ V t) : lf_P o s aa l X' w V (lf_u R t 1) K T := by
  obtain ⟨h1, h2, h3, h4, h5, hr⟩ := h
  have hR : ∀ p, lf_u R t 1 p = 0 → p ≠ t ∧ R p = 0 := by
    intro p g
    by_cases e : p = t
    · rw [e, lf_us] at g
      omega
    · rw [lf_un e] at g
      exact ⟨e, g⟩
  refine ⟨h1, fun p a b => h2 p a (hR p b).2, fun p q a b c d => ?_, fun p a => ?_, h5, lf_R1 hr (Nat.le_refl 1)⟩
  · obtain ⟨d1, d2⟩ := hR p d
    rcases h3 p q a b c d2 with k | k | ⟨k1, k2⟩
    · exact Or.inl k
    · exact Or.inr (Or.inl k)
    · rcases hX p k2 with g | g
      · exact Or.inr (Or.inr ⟨k1, g⟩)
      · exact absurd g d1
  · rcases h4 p a with k | k | k | ⟨k1, k2⟩
    · exact Or.inl k
    · exact Or.inr (Or.inl k)
    · exact Or.inr (Or.inr (Or.inl k))
    · rcases hX p k1 with g | g
      · exact Or.inr (Or.inr (Or.inr ⟨g, k2⟩))
      · rw [g] at k2
        omega
theorem lf_P_drop {o : Nat → Prop} {s V R K T : Nat → Nat} {aa l w t : Nat} {X X' : Nat → Prop} (h : lf_P o s aa l X w V R K T)
    (ht : t < 432) (hX : ∀ p, X p → X' p ∨ p = t) : lf_P o s aa l X' (w + 1) (lf_u V t 0) (lf_u R t 1) (lf_u K w t) (lf_u T w (V t)) := by
  obtain ⟨h1, h2, h3, h4, h5, hr⟩ := h
  have hR : ∀ p, lf_u R t 1 p = 0 → p ≠ t ∧ R p = 0 := by
    intro p g
    by_cases e : p = t
    · rw [e, lf_us] at g
      omega
    · rw [lf_un e] at g
      exact ⟨e, g⟩
  have hK : ∀ i, i < w → lf_u K w t i = K i := fun i hi => lf_un (by omega)
  have hT : ∀ i, i < w → lf_u T w (V t) i = T i := fun i hi => lf_un (by omega)
  refine ⟨fun p a => ?_, fun p a b => ?_, fun p q a b c d => ?_, fun p a => ?_, fun i hi => ?_, lf_R1 hr (Nat.le_refl 1)⟩
  · by_cases e : p = t
    · rw [e, lf_us]
      omega
    · rw [lf_un e]
      exact h1 p a
  · obtain ⟨d1, d2⟩ := hR p b
    rw [lf_un d1]
    exact h2 p a d2
  · obtain ⟨d1, d2⟩ := hR p d
    rw [lf_un d1]
    by_cases e : q = t
    · exact Or.inr (Or.inl ⟨w, by omega, by rw [lf_us, e]⟩)
    · rw [lf_un e]
      rcases h3 p q a b c d2 with k | ⟨i, k1, k2⟩ | ⟨k1, k2⟩
      · exact Or.inl k
      · exact Or.inr (Or.inl ⟨i, by omega, by rw [hK i k1, k2]⟩)
      · rcases hX p k2 with g | g
        · exact Or.inr (Or.inr ⟨k1, g⟩)
        · exact absurd g d1
  · by_cases e : p = t
    · left
      rw [e, lf_us]
      omega
    · rw [lf_un e]
      rcases h4 p a with k | ⟨k1, q, k2, k3, k4⟩ | ⟨i, k1, k2, k3⟩ | ⟨k1, k2⟩
      · exact Or.inl k
      · by_cases eq : q = t
        · refine Or.inr (Or.inr (Or.inl ⟨w, by omega, ?_, ?_⟩))
          · rw [lf_us, ← eq]
            exact k3
          · rw [lf_us, ← eq]
            exact k4
        · exact Or.inr (Or.inl ⟨k1, q, k2, k3, by rw [lf_un eq]; exact k4⟩)
      · exact Or.inr (Or.inr (Or.inl ⟨i, by omega, by rw [hK i k1]; exact k2, by rw [hT i k1]; exact k3⟩))
      · rcases hX p k1 with g | g
        · exact Or.inr (Or.inr (Or.inr ⟨g, k2⟩))
        · exact absurd g e
  · by_cases e : i = w
    · rw [e, lf_us, lf_us]
      exact ⟨ht, h1 t ht⟩
    · rw [hK i (by omega), hT i (by omega)]
      exact h5 i (by omega)
theorem lf_P_pop {o : Nat → Prop} {s V R K T : Nat → Nat} {aa l w : Nat} (h : lf_P o s aa l (fun _ => False) (w + 1) V R K T) :
    lf_P o s (K w) (T w) (lf_adj (K w)) w V R K T := by
  obtain ⟨h1, h2, h3, h4, h5, hr⟩ := h
  refine ⟨h1, h2, fun p q a b c d => ?_, fun p a => ?_, fun i hi => h5 i (by omega), hr⟩
  · rcases h3 p q a b c d with k | ⟨i, k1, k2⟩ | ⟨_, k⟩
    · exact Or.inl k
    · by_cases e : i = w
      · refine Or.inr (Or.inr ⟨by rw [← k2, e], ?_⟩)
        rw [← e, k2]
        exact (lf_adj_s a b).2.2
      · exact Or.inr (Or.inl ⟨i, by omega, k2⟩)
    · exact absurd k id
  · rcases h4 p a with k | k | ⟨i, k1, k2, k3⟩ | ⟨k, _⟩
    · exact Or.inl k
    · exact Or.inr (Or.inl k)
    · by_cases e : i = w
      · rw [e] at k2 k3
        exact Or.inr (Or.inr (Or.inr ⟨k2, k3⟩))
      · exact Or.inr (Or.inr (Or.inl ⟨i, by omega, k2, k3⟩))
    · exact absurd k id
/-- the neighbours of aa from way i on -/
def lf_X (aa i p : Nat) : Prop := ∃ w d, i ≤ w ∧ w < 6 ∧ lf_nb (aa - lf_b aa) w = some d ∧ p = lf_b aa + d
theorem lf_X0 {aa p : Nat} (h : lf_adj aa p) : lf_X aa 0 p := by
  obtain ⟨w, d, h1, h2, h3⟩ := h
  exact ⟨w, d, by omega, h1, h2, h3⟩
theorem lf_X6 {aa p : Nat} (h : lf_X aa 6 p) : False := by
  obtain ⟨w, d, h1, h2, h3⟩ := h
  omega
theorem lf_Xn {aa i p : Nat} (hn : lf_nb (aa - lf_b aa) i = none) (h : lf_X aa i p) : lf_X aa (i + 1) p := by
  obtain ⟨w, d, h1, h2, h3, h4⟩ := h
  by_cases e : w = i
  · rw [e, hn] at h3
    exact absurd h3 (by simp)
  · exact ⟨w, d, by omega, h2, h3, h4⟩
theorem lf_Xs {aa i p d : Nat} (hn : lf_nb (aa - lf_b aa) i = some d) (h : lf_X aa i p) : lf_X aa (i + 1) p ∨ p = lf_b aa + d := by
  obtain ⟨w, d', h1, h2, h3, h4⟩ := h
  by_cases e : w = i
  · rw [e, hn] at h3
    right
    rw [h4, Option.some.inj h3]
  · exact Or.inl ⟨w, d', by omega, h2, h3, h4⟩
/-- how many of the first n places are lit -/
def lf_cnt (V : Nat → Nat) : Nat → Nat
  | 0 => 0
  | n + 1 => lf_cnt V n + (if V n = 0 then 0 else 1)
theorem lf_cnt_le (V : Nat → Nat) (n : Nat) : lf_cnt V n ≤ n := by
  induction n with
  | zero => exact Nat.le_refl 0
  | succ n ih =>
    unfold lf_cnt
    split <;> omega
theorem lf_cnt_out {V : Nat → Nat} {p x : Nat} : ∀ n, n ≤ p → lf_cnt (lf_u V p x) n = lf_cnt V n := by
  intro n
  induction n with
  | zero => intro _; rfl
  | succ n ih =>
    intro h
    unfold lf_cnt
    rw [ih (by omega), lf_un (show n ≠ p by omega)]
theorem lf_cnt_drop {V : Nat → Nat} {p : Nat} (hp : V p ≠ 0) : ∀ n, p < n → lf_cnt (lf_u V p 0) n + 1 = lf_cnt V n := by
  intro n
  induction n with
  | zero => intro h; omega
  | succ n ih =>
    intro h
    unfold lf_cnt
    by_cases e : n = p
    · rw [e, lf_us, if_pos rfl, if_neg hp, lf_cnt_out p (Nat.le_refl p)]
    · rw [lf_un e]
      have := ih (by omega)
      omega
theorem lf_le {o : Nat → Prop} {s s' V W R R' : Nat → Nat} (h : lf_Q o s V R) (h' : lf_Q o s' W R') (hs : ∀ p, p < 432 → s p = s' p)
    (hR : ∀ p, p < 432 → R' p = 0) : ∀ n p, p < 432 → 12 - V p < n → V p ≤ W p := by
  obtain ⟨h1, h2, h3, h4, hr⟩ := h
  obtain ⟨g1, g2, g3, g4, _⟩ := h'
  intro n
  induction n with
  | zero => intro p _ k; omega
  | succ n ih =>
    intro p hp k
    rcases h4 p hp with a | ⟨a, q, b1, b2, b3⟩
    · have := g2 p hp (hR p hp)
      have := hs p hp
      omega
    · have e1 := h1 q b1
      have e2 := ih q b1 (by omega)
      have e3 := g3 q p b1 b2 a (hR q b1)
      omega
theorem lf_same {o : Nat → Prop} {s s' V W R R' : Nat → Nat} (h : lf_Q o s V R) (h' : lf_Q o s' W R') (hs : ∀ p, p < 432 → s p = s' p)
    (hR : ∀ p, p < 432 → R p = 0) (hR' : ∀ p, p < 432 → R' p = 0) {p : Nat} (hp : p < 432) : V p = W p :=
  Nat.le_antisymm (lf_le h h' hs hR' _ p hp (Nat.lt_succ_self _)) (lf_le h' h (fun q hq => (hs q hq).symm) hR _ p hp (Nat.lt_succ_self _))
/-- inside flow, at level l, places below i are done; of the place aa the neighbours X aren't looked at yet -/
def lf_F (o : Nat → Prop) (s : Nat → Nat) (aa l i : Nat) (X : Nat → Prop) (V R : Nat → Nat) : Prop :=
  (∀ p, p < 432 → V p ≤ 12) ∧ (∀ p, p < 432 → s p ≤ V p) ∧
  (∀ p q, p < 432 → lf_adj p q → o q → R p = 0 → V p ≤ V q + 1 ∨ (p = aa ∧ X q)) ∧
  (∀ p, p < 432 → V p ≤ s p ∨ (o p ∧ ∃ q, q < 432 ∧ lf_adj q p ∧ V p + 1 ≤ V q)) ∧
  (∀ p, p < 432 → R p ≠ 0 → V p ≤ l) ∧ (∀ p, p < 432 → p < i → R p ≠ 0 → V p < l) ∧ (∀ p, p < 432 → R p ≤ 1)
theorem lf_F_skip {o : Nat → Prop} {s V R : Nat → Nat} {aa l i : Nat} {X X' : Nat → Prop} (h : lf_F o s aa l i X V R)
    (hX : ∀ q, X q → o q → X' q ∨ V aa ≤ V q + 1) : lf_F o s aa l i X' V R := by
  obtain ⟨h1, h2, h3, h4, h5, h6, hr⟩ := h
  refine ⟨h1, h2, fun p q a b c d => ?_, h4, h5, h6, hr⟩
  rcases h3 p q a b c d with k | ⟨k1, k2⟩
  · exact Or.inl k
  · rcases hX q k2 c with g | g
    · exact Or.inr ⟨k1, g⟩
    · exact Or.inl (by rw [k1]; exact g)
theorem lf_F_raise {o : Nat → Prop} {s V R : Nat → Nat} {aa l i t : Nat} {X X' : Nat → Prop} (h : lf_F o s aa l i X V R)
    (hl : 1 ≤ l) (hl2 : l ≤ 12) (ha : V aa = l) (haa : aa < 432) (hadj : lf_adj aa t) (ho : o t) (hlt : V t < l - 1)
    (hX : ∀ q, X q → X' q ∨ q = t) : lf_F o s aa l i X' (lf_u V t (l - 1)) (lf_u R t 1) := by
  obtain ⟨h1, h2, h3, h4, h5, h6, hr⟩ := h
  have hat : aa ≠ t := by
    intro e
    rw [e] at ha
    omega
  have hge : ∀ q, V q ≤ lf_u V t (l - 1) q := by
    intro q
    by_cases e : q = t
    · rw [e, lf_us]
      omega
    · rw [lf_un e]
      exact Nat.le_refl _
  refine ⟨fun p a => ?_, fun p a => Nat.le_trans (h2 p a) (hge p), fun p q a b c d => ?_, fun p a => ?_, fun p a b => ?_, fun p a c b => ?_, lf_R1 hr (Nat.le_refl 1)⟩
  · by_cases e : p = t
    · rw [e, lf_us]
      omega
    · rw [lf_un e]
      exact h1 p a
  · have ep : p ≠ t := by
      intro e
      rw [e, lf_us] at d
      omega
    rw [lf_un ep] at d
    rw [lf_un ep]
    rcases h3 p q a b c d with k | ⟨k1, k2⟩
    · have := hge q
      exact Or.inl (by omega)
    · rcases hX q k2 with g | g
      · exact Or.inr ⟨k1, g⟩
      · left
        rw [g, lf_us, k1]
        omega
  · by_cases e : p = t
    · right
      refine ⟨by rw [e]; exact ho, aa, haa, by rw [e]; exact hadj, ?_⟩
      rw [e, lf_us, lf_un hat]
      omega
    · rw [lf_un e]
      rcases h4 p a with k | ⟨k1, q, k2, k3, k4⟩
      · exact Or.inl k
      · exact Or.inr ⟨k1, q, k2, k3, Nat.le_trans k4 (hge q)⟩
  · by_cases e : p = t
    · rw [e, lf_us]
      omega
    · rw [lf_un e] at b
      rw [lf_un e]
      exact h5 p a b
  · by_cases e : p = t
    · rw [e, lf_us]
      omega
    · rw [lf_un e] at b
      rw [lf_un e]
      exact h6 p a c b
theorem lf_F_take {o : Nat → Prop} {s V R : Nat → Nat} {aa l i : Nat} (h : lf_F o s aa l i (fun _ => False) V R) :
    lf_F o s i l (i + 1) (lf_adj i) V (lf_u R i 0) := by
  obtain ⟨h1, h2, h3, h4, h5, h6, hr⟩ := h
  refine ⟨h1, h2, fun p q a b c d => ?_, h4, fun p a b => ?_, fun p a c b => ?_, lf_R1 hr (Nat.zero_le 1)⟩
  · by_cases e : p = i
    · exact Or.inr ⟨e, by rw [← e]; exact b⟩
    · rw [lf_un e] at d
      rcases h3 p q a b c d with k | ⟨_, k⟩
      · exact Or.inl k
      · exact absurd k id
  · by_cases e : p = i
    · rw [e, lf_us] at b
      exact absurd rfl b
    · rw [lf_un e] at b
      exact h5 p a b
  · by_cases e : p = i
    · rw [e, lf_us] at b
      exact absurd rfl b
    · rw [lf_un e] at b
      exact h6 p a (by omega) b
theorem lf_F_next {o : Nat → Prop} {s V R : Nat → Nat} {aa l i : Nat} (h : lf_F o s aa l i (fun _ => False) V R) (hi : R i = 0 ∨ V i ≠ l) :
    lf_F o s aa l (i + 1) (fun _ => False) V R := by
  obtain ⟨h1, h2, h3, h4, h5, h6, hr⟩ := h
  refine ⟨h1, h2, h3, h4, h5, fun p a c b => ?_, hr⟩
  by_cases e : p = i
  · have k := h5 p a b
    rcases hi with g | g
    · rw [e] at b
      exact absurd g b
    · rw [e] at k
      rw [e]
      omega
  · exact h6 p a (by omega) b
theorem lf_F_down {o : Nat → Prop} {s V R : Nat → Nat} {aa aa' l : Nat} (h : lf_F o s aa (l + 1) 432 (fun _ => False) V R) :
    lf_F o s aa' l 0 (fun _ => False) V R := by
  obtain ⟨h1, h2, h3, h4, h5, h6, hr⟩ := h
  refine ⟨h1, h2, fun p q a b c d => ?_, h4, fun p a b => ?_, fun p a c b => absurd c (by omega), hr⟩
  · rcases h3 p q a b c d with k | ⟨_, k⟩
    · exact Or.inl k
    · exact absurd k id
  · have := h6 p a a b
    omega
theorem lf_F_end {o : Nat → Prop} {s V R R' : Nat → Nat} {aa : Nat} (h : lf_F o s aa 0 0 (fun _ => False) V R) (hR' : ∀ p, p < 432 → R' p = 0) : lf_Q o s V R' := by
  obtain ⟨h1, h2, h3, h4, h5, h6, hr⟩ := h
  refine ⟨h1, fun p a _ => h2 p a, fun p q a b c _ => ?_, h4, fun p a => by rw [hR' p a]; omega⟩
  by_cases e : R p = 0
  · rcases h3 p q a b c e with k | ⟨_, k⟩
    · exact k
    · exact absurd k id
  · have := h5 p a e
    omega
theorem lf_F_start {o : Nat → Prop} {s V R : Nat → Nat} {aa : Nat} (h : lf_Q o s V R) (hs : ∀ p, p < 432 → s p ≤ V p) : lf_F o s aa 12 0 (fun _ => False) V R := by
  obtain ⟨h1, h2, h3, h4, hr⟩ := h
  exact ⟨h1, hs, fun p q a b c d => Or.inl (h3 p q a b c d), h4, fun p a _ => h1 p a, fun p _ c _ => absurd c (by omega), hr⟩
theorem lf_Q_own {o : Nat → Prop} {s V R : Nat → Nat} {i : Nat} (h : lf_Q o s V R) (hi : R i ≠ 0) (h12 : s i ≤ 12) (hlt : V i < s i) : lf_Q o s (lf_u V i (s i)) R := by
  obtain ⟨h1, h2, h3, h4, hr⟩ := h
  have hge : ∀ q, V q ≤ lf_u V i (s i) q := by
    intro q
    by_cases e : q = i
    · rw [e, lf_us]
      omega
    · rw [lf_un e]
      exact Nat.le_refl _
  refine ⟨fun p a => ?_, fun p a b => Nat.le_trans (h2 p a b) (hge p), fun p q a b c d => ?_, fun p a => ?_, hr⟩
  · by_cases e : p = i
    · rw [e, lf_us]
      exact h12
    · rw [lf_un e]
      exact h1 p a
  · have ep : p ≠ i := by
      intro e
      rw [e] at d
      exact hi d
    rw [lf_un ep]
    have := h3 p q a b c d
    have := hge q
    omega
  · by_cases e : p = i
    · left
      rw [e, lf_us]
      exact Nat.le_refl _
    · rw [lf_un e]
      rcases h4 p a with k | ⟨k1, q, k2, k3, k4⟩
      · exact Or.inl k
      · exact Or.inr ⟨k1, q, k2, k3, Nat.le_trans k4 (hge q)⟩
end
section
theorem lf_lp5 {W : Nat → Nat → Nat → (Nat → Nat) → (Nat → Nat) → (Nat → Nat) → (Nat → Nat) → Prop}
    (I : Nat → Nat → (Nat → Nat) → (Nat → Nat) → (Nat → Nat) → (Nat → Nat) → Prop) (e : Nat)
    (hx : ∀ n w V R K T, I e w V R K T → W (n + 1) e w V R K T)
    (hs : ∀ n i w V R K T, i < e → I i w V R K T → (∀ w' V' R' K' T', I (i + 1) w' V' R' K' T' → W n (i + 1) w' V' R' K' T') → W (n + 1) i w V R K T)
    {w : Nat} {V R K T : Nat → Nat} (h : I 0 w V R K T) : ∃ n, W n 0 w V R K T :=
  pk_loop (σ := Nat × (Nat → Nat) × (Nat → Nat) × (Nat → Nat) × (Nat → Nat)) (fun n i s => W n i s.1 s.2.1 s.2.2.1 s.2.2.2.1 s.2.2.2.2)
    (fun i s => I i s.1 s.2.1 s.2.2.1 s.2.2.2.1 s.2.2.2.2) e 0 (w, V, R, K, T) (Nat.zero_le e) h (fun n s h => hx n _ _ _ _ _ h)
    (fun n i s hi h hw => hs n i _ _ _ _ _ hi h (fun w' V' R' K' T' h' => hw (w', V', R', K', T') h'))
theorem lf_lp2 {W : Nat → Nat → (Nat → Nat) → (Nat → Nat) → Prop} (I : Nat → (Nat → Nat) → (Nat → Nat) → Prop) (e : Nat)
    (hx : ∀ n V R, I e V R → W (n + 1) e V R)
    (hs : ∀ n i V R, i < e → I i V R → (∀ V' R', I (i + 1) V' R' → W n (i + 1) V' R') → W (n + 1) i V R)
    {V R : Nat → Nat} (h : I 0 V R) : ∃ n, W n 0 V R :=
  pk_loop (σ := (Nat → Nat) × (Nat → Nat)) (fun n i s => W n i s.1 s.2) (fun i s => I i s.1 s.2) e 0 (V, R) (Nat.zero_le e) h (fun n s h => hx n _ _ h)
    (fun n i s hi h hw => hs n i _ _ hi h (fun V' R' h' => hw (V', R') h'))
theorem lf_nm1 {d : Nat} (h : d < 2 ^ 31) : ¬ nI d = -1 := by
  intro e
  have k := nI_pos h
  rw [e] at k
  exact k (by decide)
theorem lf_neighX {post : Int32 → Prop} {u : St2} {x : Int32} {c w : Nat} (hx : x = nI c) (hc : c < 216) (hw : w < 6) (h0 : lf_nb c w = none → post (-1))
    (h1 : ∀ d, d < 216 → lf_nb c w = some d → post (nI d)) : wpX_neighbour post u x (nI w) := by
  rw [hx]
  exact lf_neigh hc hw h0 h1
theorem lf_drop {post : St1 → Prop} {a1 a2 a3 a8 a9 : Nat → Int32} {V R K T : Nat → Nat} {w p : Nat} {x : Int32} (hx : x = nI p) (hw : w < 432) (hp : p < 432)
    (H : post (nI (w + 1), a1, a2, a3, lf_a (lf_u V p 0), lf_a (lf_u R p 1), lf_a (lf_u K w p), lf_a (lf_u T w (V p)), a8, a9)) :
    wpX_drop post (nI w, a1, a2, a3, lf_a V, lf_a R, lf_a K, lf_a T, a8, a9) x := by
  subst hx
  unfold wpX_drop
  exact ⟨pk_in w 432 hw, nm_r (lf_updN rfl (by omega) rfl) ⟨pk_in p 432 hp, pk_in w 432 hw, nm_r (lf_updN rfl (by omega) (lf_at rfl (by omega))) (nm_r (nI_1 w)
    ⟨pk_in p 432 hp, nm_r (lf_updN (x := 0) rfl (by omega) rfl) ⟨pk_in p 432 hp, nm_r (lf_updN (x := 1) rfl (by omega) rfl) H⟩⟩)⟩⟩
theorem lf_ta86 {post : St1 → Prop} {J22 : Int32 → Int32 → (Nat → Int32) → (Nat → Int32) → (Nat → Int32) → (Nat → Int32) → (Nat → Int32) → (Nat → Int32) → (Nat → Int32) → (Nat → Int32) → (Nat → Int32) → Prop}
    {x2 : Int32} {a1 a2 a3 a8 a9 : Nat → Int32} {o : Nat → Prop} {s V R K T V0 : Nat → Nat} {aa l b w m : Nat} (haa : aa < 432) (hl : l ≤ 12) (hb : lf_b aa = b)
    (hP : lf_P o s aa l (lf_adj aa) w V R K T) (hc : w + lf_cnt V 432 ≤ m) (hm : m ≤ 432) (hle : ∀ j, V j ≤ V0 j)
    (H : ∀ w' V' R' K' T', lf_P o s aa l (fun _ => False) w' V' R' K' T' → w' + lf_cnt V' 432 ≤ m → (∀ j, V' j ≤ V0 j) →
      J22 (x2 + 1) (nI w') a1 a2 a3 (lf_a V') (lf_a R') (lf_a K') (lf_a T') a8 a9) :
    ∃ n, wX_takeAway_86 post J22 x2 (nI aa) (nI l) (nI b) n 0 (nI w) a1 a2 a3 (lf_a V) (lf_a R) (lf_a K) (lf_a T) a8 a9 := by
  subst hb
  refine lf_lp5 (W := fun n i w V R K T => wX_takeAway_86 post J22 x2 (nI aa) (nI l) (nI (lf_b aa)) n (nI i) (nI w) a1 a2 a3 (lf_a V) (lf_a R) (lf_a K) (lf_a T) a8 a9)
    (fun i w V R K T => lf_P o s aa l (lf_X aa i) w V R K T ∧ w + lf_cnt V 432 ≤ m ∧ ∀ j, V j ≤ V0 j) 6 ?_ ?_
    ⟨lf_P_skip hP (fun p _ k => Or.inl (lf_X0 k)), hc, hle⟩
  · intro n w V R K T ⟨hP, hc, hle⟩
    exact pk_le 6 6 (fun _ => nm_e (H w V R K T (lf_P_skip hP (fun p _ k => absurd (lf_X6 k) id)) hc hle)) (fun z => absurd z (by omega))
  · intro n i w V R K T hi ⟨hP, hc, hle⟩ hw
    have hbl : lf_b aa ≤ aa := by
      rcases lf_b_or aa with ⟨h1, h2⟩ | ⟨h1, h2⟩ <;> omega
    have hbl2 : aa - lf_b aa < 216 := by
      rcases lf_b_or aa with ⟨h1, h2⟩ | ⟨h1, h2⟩ <;> omega
    have hbl3 : lf_b aa ≤ 216 := by
      rcases lf_b_or aa with ⟨h1, h2⟩ | ⟨h1, h2⟩ <;> omega
    refine pk_le 6 i (fun z => absurd z (by omega)) (fun _ => ?_)
    refine lf_neighX (pk_sub hbl) hbl2 hi (fun hn => ?_) (fun d hd hn => ?_)
    · exact br_t rfl (nm_r (nI_1 i) (hw w V R K T ⟨lf_P_skip hP (fun p _ k => Or.inl (lf_Xn hn k)), hc, hle⟩))
    · have hq : lf_b aa + d < 432 := by omega
      have hV := hP.1 (lf_b aa + d) hq
      refine br_f (lf_nm1 (by omega)) ⟨pk_in (lf_b aa + d) 432 hq (nI_add _ _), ?_⟩
      refine pk_le (V (lf_b aa + d)) 0 (fun z => ?_) (fun z => ⟨pk_in (lf_b aa + d) 432 hq (nI_add _ _), ?_⟩) (lf_at (nI_add _ _) (by omega)) rfl (by omega) (by omega)
      · refine nm_r (nI_1 i) (hw w V R K T ⟨lf_P_skip hP (fun p _ k => ?_), hc, hle⟩)
        rcases lf_Xs hn k with g | g
        · exact Or.inl g
        · exact Or.inr (by rw [g]; omega)
      · refine pk_le l (V (lf_b aa + d)) (fun g => ?_) (fun g => ?_) rfl (lf_at (nI_add _ _) (by omega)) (by omega) (by omega)
        · exact ⟨pk_in (lf_b aa + d) 432 hq (nI_add _ _), nm_r (lf_updN (x := 1) (nI_add _ _) (by omega) rfl) (nm_r (nI_1 i)
            (hw w V _ K T ⟨lf_P_rim hP (fun p k => lf_Xs hn k) g, hc, hle⟩))⟩
        · have hcd := lf_cnt_drop (show V (lf_b aa + d) ≠ 0 by omega) 432 hq
          refine lf_drop (nI_add _ _) (by omega) hq ?_
          refine nm_r (nI_1 i) (hw (w + 1) _ _ _ _ ⟨lf_P_drop hP hq (fun p k => lf_Xs hn k), by omega, fun j => ?_⟩)
          by_cases e : j = lf_b aa + d
          · rw [e, lf_us]
            omega
          · rw [lf_un e]
            exact hle j
theorem lf_ta22 {post : St1 → Prop} {a1 a2 a3 a8 a9 : Nat → Int32} {o : Nat → Prop} {s V R K T V0 : Nat → Nat} {w : Nat}
    (hP : lf_P o s 0 0 (fun _ => False) w V R K T) (hc : w + lf_cnt V 432 ≤ 432) (hle : ∀ j, V j ≤ V0 j)
    (H : ∀ f' V' R' K' T', lf_Q o s V' R' → (∀ j, V' j ≤ V0 j) → post (f', a1, a2, a3, lf_a V', lf_a R', lf_a K', lf_a T', a8, a9)) :
    ∃ n, wX_takeAway_22 post n 0 (nI w) a1 a2 a3 (lf_a V) (lf_a R) (lf_a K) (lf_a T) a8 a9 := by
  refine lf_lp5 (W := fun n i w V R K T => wX_takeAway_22 post n (nI i) (nI w) a1 a2 a3 (lf_a V) (lf_a R) (lf_a K) (lf_a T) a8 a9)
    (fun i w V R K T => lf_P o s 0 0 (fun _ => False) w V R K T ∧ w + lf_cnt V 432 + i ≤ 432 ∧ ∀ j, V j ≤ V0 j) 432 ?_ ?_ ⟨hP, hc, hle⟩
  · intro n w V R K T ⟨hP, hc, hle⟩
    have hw : w = 0 := by omega
    subst hw
    exact pk_le 432 432 (fun _ => H _ V R K T (lf_P_out hP) hle) (fun z => absurd z (by omega))
  · intro n i w V R K T hi ⟨hP, hc, hle⟩ hw
    refine pk_le 432 i (fun z => absurd z (by omega)) (fun _ => ?_)
    cases w with
    | zero => exact pk_le 0 0 (fun _ => H _ V R K T (lf_P_out hP) hle) (fun z => absurd z (by omega))
    | succ w =>
      refine pk_le (w + 1) 0 (fun z => absurd z (by omega)) (fun _ => nm_r (nI_pred w) ⟨pk_in w 432 (by omega), ?_⟩)
      obtain ⟨hK, hT⟩ := hP.2.2.2.2.1 w (by omega)
      refine nm_r (lf_at rfl (by omega)) ⟨pk_in w 432 (by omega), nm_r (lf_at rfl (by omega)) ?_⟩
      have key : ∀ b, lf_b (K w) = b → ∃ fu, wX_takeAway_86 post (wX_takeAway_22 post n) (nI i) (nI (K w)) (nI (T w)) (nI b) fu 0 (nI w) a1 a2 a3 (lf_a V) (lf_a R) (lf_a K) (lf_a T) a8 a9 := by
        intro b hb
        refine lf_ta86 (m := 432 - (i + 1)) hK hT hb (lf_P_pop hP) (by omega) (by omega) hle (fun w' V' R' K' T' g1 g2 g3 => ?_)
        rw [nI_1]
        refine hw w' V' R' K' T' ⟨?_, by omega, g3⟩
        obtain ⟨k1, k2, k3, k4, k5, k6⟩ := g1
        refine ⟨k1, k2, fun p q a b c d => ?_, fun p a => ?_, k5, k6⟩
        · rcases k3 p q a b c d with t | t | ⟨_, t⟩
          · exact Or.inl t
          · exact Or.inr (Or.inl t)
          · exact absurd t id
        · rcases k4 p a with t | t | t | ⟨t, _⟩
          · exact Or.inl t
          · exact Or.inr (Or.inl t)
          · exact Or.inr (Or.inr (Or.inl t))
          · exact absurd t id
      exact pk_le 216 (K w) (fun g => key 216 (lf_b1 g)) (fun g => key 0 (lf_b0 g))
theorem lf_takeAway {post : St1 → Prop} {f : Int32} {a1 a2 a3 a8 a9 : Nat → Int32} {o : Nat → Prop} {s V R K T : Nat → Nat} {p : Nat} {x : Int32} (hx : x = nI p) (hp : p < 432)
    (hQ : lf_Q o s V R)
    (H : ∀ f' V' R' K' T', lf_Q o s V' R' → V' p = 0 → (∀ j, V' j ≤ V j) → post (f', a1, a2, a3, lf_a V', lf_a R', lf_a K', lf_a T', a8, a9)) :
    wpX_takeAway post (f, a1, a2, a3, lf_a V, lf_a R, lf_a K, lf_a T, a8, a9) x := by
  have h12 := hQ.1 p hp
  unfold wpX_takeAway
  refine ⟨pk_in p 432 hp hx, pk_eq (V p) 0 (fun z => H f V R K T hQ z (fun j => Nat.le_refl _)) (fun z => ?_) (lf_at hx (by omega)) rfl (by omega) (by omega)⟩
  have hcd := lf_cnt_drop z 432 hp
  have hcl := lf_cnt_le V 432
  refine lf_drop (w := 0) hx (by omega) hp ?_
  refine lf_ta22 (o := o) (s := s) (V0 := lf_u V p 0) (lf_P_drop (X := fun _ => False) (lf_P_in hQ) hp (fun q k => absurd k id)) (by omega) (fun j => Nat.le_refl _) (fun f' V' R' K' T' g1 g2 => H f' V' R' K' T' g1 ?_ (fun j => ?_))
  · have := g2 p
    rw [lf_us] at this
    omega
  · have := g2 j
    by_cases e : j = p
    · rw [e, lf_us] at this
      rw [e]
      omega
    · rw [lf_un e] at this
      exact this
end
section
/-- the place's cell isn't solid -/
def lf_o (S : Nat → Nat) (p : Nat) : Prop := S (p - lf_b p) = 0
/-- the level that a place has of its own -/
def lf_src (M E : Nat → Nat) (p : Nat) : Nat := if p < 216 then M p else if E (p - 216) = 0 then 0 else 8
theorem lf_src_le {M E : Nat → Nat} {p : Nat} (hM : ∀ c, c < 216 → M c ≤ 12) : lf_src M E p ≤ 12 := by
  unfold lf_src
  split
  · exact hM p (by assumption)
  · split <;> omega
theorem lf_ps18 {post : St1 → Prop} {f : Int32} {a2 a3 a6 a7 a8 a9 : Nat → Int32} {S s V R : Nat → Nat} {aa l b i0 : Nat} (hS : ∀ c, c < 216 → S c ≤ 1) (haa : aa < 432) (hb : lf_b aa = b)
    (hl1 : 1 ≤ l) (hl2 : l ≤ 12) (hF : lf_F (lf_o S) s aa l i0 (lf_adj aa) V R) (hV : V aa = l)
    (H : ∀ V' R', lf_F (lf_o S) s aa l i0 (fun _ => False) V' R' → post (f, lf_a S, a2, a3, lf_a V', lf_a R', a6, a7, a8, a9)) :
    ∃ n, wX_pass_18 post (nI aa) (nI l) (nI b) f n 0 (lf_a S) a2 a3 (lf_a V) (lf_a R) a6 a7 a8 a9 := by
  subst hb
  refine lf_lp2 (W := fun n i V R => wX_pass_18 post (nI aa) (nI l) (nI (lf_b aa)) f n (nI i) (lf_a S) a2 a3 (lf_a V) (lf_a R) a6 a7 a8 a9)
    (fun i V R => lf_F (lf_o S) s aa l i0 (lf_X aa i) V R ∧ V aa = l) 6 ?_ ?_ ⟨lf_F_skip hF (fun q k _ => Or.inl (lf_X0 k)), hV⟩
  · intro n V R ⟨hF, hV⟩
    exact pk_le 6 6 (fun _ => H V R (lf_F_skip hF (fun q k _ => absurd (lf_X6 k) id))) (fun z => absurd z (by omega))
  · intro n i V R hi ⟨hF, hV⟩ hw
    have hbl : lf_b aa ≤ aa := by
      rcases lf_b_or aa with ⟨h1, h2⟩ | ⟨h1, h2⟩ <;> omega
    have hbl2 : aa - lf_b aa < 216 := by
      rcases lf_b_or aa with ⟨h1, h2⟩ | ⟨h1, h2⟩ <;> omega
    have hbl3 : lf_b aa ≤ 216 := by
      rcases lf_b_or aa with ⟨h1, h2⟩ | ⟨h1, h2⟩ <;> omega
    refine pk_le 6 i (fun z => absurd z (by omega)) (fun _ => ?_)
    refine lf_neighX (pk_sub hbl) hbl2 hi (fun hn => ?_) (fun d hd hn => ?_)
    · exact br_t rfl (nm_r (nI_1 i) (hw V R ⟨lf_F_skip hF (fun q k _ => Or.inl (lf_Xn hn k)), hV⟩))
    · have hq : lf_b aa + d < 432 := by omega
      have hadj : lf_adj aa (lf_b aa + d) := ⟨i, d, hi, hn, rfl⟩
      have hbq := (lf_adj_s haa hadj).2.1
      have ho : lf_o S (lf_b aa + d) ↔ S d = 0 := by
        unfold lf_o
        rw [hbq, show lf_b aa + d - lf_b aa = d by omega]
      have hVq := hF.1 (lf_b aa + d) hq
      have hSd := hS d hd
      refine br_f (lf_nm1 (by omega)) ⟨pk_in d 216 hd, ?_⟩
      refine pk_eq (S d) 0 (fun z => ⟨pk_in (lf_b aa + d) 432 hq (nI_add _ _), ?_⟩) (fun z => ?_) (lf_at rfl (by omega)) rfl (by omega) (by omega)
      · refine pk_le (l - 1) (V (lf_b aa + d)) (fun g => ?_) (fun g => ?_) (pk_sub hl1) (lf_at (nI_add _ _) (by omega)) (by omega) (by omega)
        · refine nm_r (nI_1 i) (hw V R ⟨lf_F_skip hF (fun q k _ => ?_), hV⟩)
          rcases lf_Xs hn k with t | t
          · exact Or.inl t
          · exact Or.inr (by rw [t]; omega)
        · refine ⟨pk_in (lf_b aa + d) 432 hq (nI_add _ _), nm_r (lf_updN (x := l - 1) (nI_add _ _) (by omega) (pk_sub hl1)) ⟨pk_in (lf_b aa + d) 432 hq (nI_add _ _),
            nm_r (lf_updN (x := 1) (nI_add _ _) (by omega) rfl) (nm_r (nI_1 i) (hw _ _ ⟨lf_F_raise hF hl1 hl2 hV haa hadj (ho.mpr z) g (fun q k => lf_Xs hn k), ?_⟩))⟩⟩
          have hne : aa ≠ lf_b aa + d := by
            intro e
            rw [← e, hV] at g
            omega
          rw [lf_un hne]
          exact hV
      · refine nm_r (nI_1 i) (hw V R ⟨lf_F_skip hF (fun q k c => ?_), hV⟩)
        rcases lf_Xs hn k with t | t
        · exact Or.inl t
        · rw [t] at c
          exact absurd (ho.mp c) z
theorem lf_pass {post : St1 → Prop} {f : Int32} {a2 a3 a6 a7 a8 a9 : Nat → Int32} {S s V R : Nat → Nat} {aa l i0 : Nat} (hS : ∀ c, c < 216 → S c ≤ 1) (haa : aa < 432)
    (hl1 : 1 ≤ l) (hl2 : l ≤ 12) (hF : lf_F (lf_o S) s aa l i0 (lf_adj aa) V R) (hV : V aa = l)
    (H : ∀ V' R', lf_F (lf_o S) s aa l i0 (fun _ => False) V' R' → post (f, lf_a S, a2, a3, lf_a V', lf_a R', a6, a7, a8, a9)) :
    wpX_pass post (f, lf_a S, a2, a3, lf_a V, lf_a R, a6, a7, a8, a9) (nI aa) (nI l) := by
  unfold wpX_pass
  exact pk_le 216 aa (fun z => lf_ps18 hS haa (lf_b1 z) hl1 hl2 hF hV H) (fun z => lf_ps18 hS haa (lf_b0 z) hl1 hl2 hF hV H)
theorem lf_source {post : Int32 → Prop} {f : Int32} {a1 a4 a5 a6 a7 a8 a9 : Nat → Int32} {M E : Nat → Nat} {p : Nat} (hp : p < 432) (hE : ∀ c, c < 216 → E c ≤ 1)
    (H : post (nI (lf_src M E p))) : wpX_source post (f, a1, lf_a M, lf_a E, a4, a5, a6, a7, a8, a9) (nI p) := by
  unfold wpX_source
  refine pk_le 216 p (fun z => ?_) (fun z => ⟨pk_in p 216 z, ?_⟩)
  · have hs : nI p - 216 = nI (p - 216) := pk_sub (b := 216) z
    have hE1 := hE (p - 216) (by omega)
    unfold lf_src at H
    rw [if_neg (by omega)] at H
    refine ⟨pk_in (p - 216) 216 (by omega) hs, ?_⟩
    refine pk_eq (E (p - 216)) 0 (fun g => ?_) (fun g => ?_) (lf_at hs (by omega)) rfl (by omega) (by omega)
    · rw [if_pos g] at H
      exact H
    · rw [if_neg g] at H
      exact H
  · unfold lf_src at H
    rw [if_pos z] at H
    rw [lf_at rfl (by omega)]
    exact H
theorem lf_fl118 {post : St1 → Prop} {f : Int32} {a1 a2 a3 a4 a6 a7 a8 a9 : Nat → Int32} {R : Nat → Nat}
    (H : ∀ R', (∀ p, p < 432 → R' p = 0) → post (f, a1, a2, a3, a4, lf_a R', a6, a7, a8, a9)) :
    ∃ n, wX_flow_118 post f n 0 a1 a2 a3 a4 (lf_a R) a6 a7 a8 a9 :=
  pk_loop (fun n i R => wX_flow_118 post f n (nI i) a1 a2 a3 a4 (lf_a R) a6 a7 a8 a9) (fun i R => ∀ p, p < i → R p = 0) 432 0 R (by omega) (fun p hp => absurd hp (by omega))
    (fun n R h => pk_le 432 432 (fun _ => H R h) (fun z => absurd z (by omega)))
    (fun n i R hi h hw => pk_le 432 i (fun z => absurd z (by omega)) (fun _ => ⟨pk_in i 432 hi, nm_r (lf_updN (x := 0) rfl (by omega) rfl) (nm_r (nI_1 i) (hw _ (fun p hp => by
      by_cases e : p = i
      · rw [e, lf_us]
      · rw [lf_un e]
        exact h p (by omega))))⟩))
theorem lf_fl65 {post : St1 → Prop} {J59 : Int32 → Int32 → (Nat → Int32) → (Nat → Int32) → (Nat → Int32) → (Nat → Int32) → (Nat → Int32) → (Nat → Int32) → (Nat → Int32) → (Nat → Int32) → (Nat → Int32) → Prop}
    {f : Int32} {a2 a3 a6 a7 a8 a9 : Nat → Int32} {S s V R : Nat → Nat} {l : Nat} (hS : ∀ c, c < 216 → S c ≤ 1) (hl2 : l + 1 ≤ 12)
    (hF : lf_F (lf_o S) s 0 (l + 1) 0 (fun _ => False) V R)
    (H : ∀ V' R', lf_F (lf_o S) s 0 l 0 (fun _ => False) V' R' → J59 (nI l) f (lf_a S) a2 a3 (lf_a V') (lf_a R') a6 a7 a8 a9) :
    ∃ n, wX_flow_65 post J59 (nI (l + 1)) n 0 f (lf_a S) a2 a3 (lf_a V) (lf_a R) a6 a7 a8 a9 := by
  refine lf_lp2 (W := fun n i V R => wX_flow_65 post J59 (nI (l + 1)) n (nI i) f (lf_a S) a2 a3 (lf_a V) (lf_a R) a6 a7 a8 a9)
    (fun i V R => lf_F (lf_o S) s 0 (l + 1) i (fun _ => False) V R) 432 ?_ ?_ hF
  · intro n V R hF
    exact pk_le 432 432 (fun _ => nm_r (pk_m1 l) (H V R (lf_F_down hF))) (fun z => absurd z (by omega))
  · intro n i V R hi hF hw
    have hRi := hF.2.2.2.2.2.2 i hi
    have hVi := hF.1 i hi
    refine pk_le 432 i (fun z => absurd z (by omega)) (fun _ => ⟨pk_in i 432 hi, ?_⟩)
    refine pk_eq (R i) 0 (fun z => ?_) (fun z => ⟨pk_in i 432 hi, ?_⟩) (lf_at rfl (by omega)) rfl (by omega) (by omega)
    · exact nm_r (nI_1 i) (hw V R (lf_F_next hF (Or.inl z)))
    · refine pk_eq (V i) (l + 1) (fun g => ⟨pk_in i 432 hi, ?_⟩) (fun g => ?_) (lf_at rfl (by omega)) rfl (by omega) (by omega)
      · refine nm_r (lf_updN (x := 0) rfl (by omega) rfl) ?_
        refine lf_pass (s := s) (i0 := i + 1) hS hi (by omega) hl2 (lf_F_take hF) g (fun V' R' h' => ?_)
        refine nm_r (nI_1 i) (hw V' R' ?_)
        obtain ⟨k1, k2, k3, k4, k5, k6, k7⟩ := h'
        refine ⟨k1, k2, fun p q a b c d => ?_, k4, k5, k6, k7⟩
        rcases k3 p q a b c d with t | ⟨_, t⟩
        · exact Or.inl t
        · exact absurd t id
      · exact nm_r (nI_1 i) (hw V R (lf_F_next hF (Or.inr g)))
theorem lf_fl59 {post : St1 → Prop} {f : Int32} {a2 a3 a6 a7 a8 a9 : Nat → Int32} {S s V R : Nat → Nat} (hS : ∀ c, c < 216 → S c ≤ 1)
    (hF : lf_F (lf_o S) s 0 12 0 (fun _ => False) V R)
    (H : ∀ V' R', lf_Q (lf_o S) s V' R' → (∀ p, p < 432 → R' p = 0) → post (f, lf_a S, a2, a3, lf_a V', lf_a R', a6, a7, a8, a9)) :
    ∃ n, wX_flow_59 post n 12 f (lf_a S) a2 a3 (lf_a V) (lf_a R) a6 a7 a8 a9 := by
  refine ⟨12 + 1, pk_loopD (σ := (Nat → Nat) × (Nat → Nat)) (fun n i t => wX_flow_59 post n (nI i) f (lf_a S) a2 a3 (lf_a t.1) (lf_a t.2) a6 a7 a8 a9)
    (fun i t => i ≤ 12 ∧ lf_F (lf_o S) s 0 i 0 (fun _ => False) t.1 t.2) ?_ ?_ 12 (V, R) ⟨by omega, hF⟩⟩
  · intro n t ⟨_, hF⟩
    exact pk_le 0 0 (fun _ => lf_fl118 (fun R' hR' => H t.1 R' (lf_F_end hF hR') hR')) (fun z => absurd z (by omega))
  · intro n i t ⟨hi, hF⟩ hw
    exact pk_le (i + 1) 0 (fun z => absurd z (by omega)) (fun _ => lf_fl65 hS hi hF (fun V' R' h' => hw (V', R') ⟨by omega, h'⟩))
theorem lf_flow {post : St1 → Prop} {f : Int32} {a6 a7 a8 a9 : Nat → Int32} {S M E V R : Nat → Nat} (hS : ∀ c, c < 216 → S c ≤ 1) (hM : ∀ c, c < 216 → M c ≤ 12) (hE : ∀ c, c < 216 → E c ≤ 1)
    (hQ : lf_Q (lf_o S) (lf_src M E) V R)
    (H : ∀ V' R', lf_Q (lf_o S) (lf_src M E) V' R' → (∀ p, p < 432 → R' p = 0) → post (f, lf_a S, lf_a M, lf_a E, lf_a V', lf_a R', a6, a7, a8, a9)) :
    wpX_flow post (f, lf_a S, lf_a M, lf_a E, lf_a V, lf_a R, a6, a7, a8, a9) := by
  unfold wpX_flow
  refine pk_loop (fun n i V => wX_flow_2 post f n (nI i) (lf_a S) (lf_a M) (lf_a E) (lf_a V) (lf_a R) a6 a7 a8 a9)
    (fun i V => lf_Q (lf_o S) (lf_src M E) V R ∧ ∀ p, p < i → lf_src M E p ≤ V p) 432 0 V (by omega) ⟨hQ, fun p hp => absurd hp (by omega)⟩ ?_ ?_
  · intro n V ⟨hQ, hs⟩
    exact pk_le 432 432 (fun _ => lf_fl59 hS (lf_F_start hQ hs) H) (fun z => absurd z (by omega))
  · intro n i V hi ⟨hQ, hs⟩ hw
    have hRi := hQ.2.2.2.2 i hi
    have hVi := hQ.1 i hi
    have h12 : lf_src M E i ≤ 12 := lf_src_le hM
    refine pk_le 432 i (fun z => absurd z (by omega)) (fun _ => ⟨pk_in i 432 hi, ?_⟩)
    refine pk_eq (R i) 0 (fun z => ?_) (fun z => ?_) (lf_at rfl (by omega)) rfl (by omega) (by omega)
    · refine nm_r (nI_1 i) (hw V ⟨hQ, fun p hp => ?_⟩)
      by_cases e : p = i
      · rw [e]
        exact hQ.2.1 i hi z
      · exact hs p (by omega)
    · refine lf_source hi hE ⟨pk_in i 432 hi, ?_⟩
      refine pk_le (lf_src M E i) (V i) (fun g => ⟨pk_in i 432 hi, pk_in i 432 hi, ?_⟩) (fun g => ⟨pk_in i 432 hi, ?_⟩) rfl (lf_at rfl (by omega)) (by omega) (by omega)
      · refine nm_r (lf_updN (x := V i) rfl (by omega) (lf_at rfl (by omega))) (nm_r (nI_1 i) ?_)
        rw [lf_u_same rfl]
        refine hw V ⟨hQ, fun p hp => ?_⟩
        by_cases e : p = i
        · rw [e]
          exact g
        · exact hs p (by omega)
      · refine nm_r (lf_updN (x := lf_src M E i) rfl (by omega) rfl) (nm_r (nI_1 i) ?_)
        refine hw _ ⟨lf_Q_own hQ z h12 g, fun p hp => ?_⟩
        by_cases e : p = i
        · rw [e, lf_us]
          exact Nat.le_refl _
        · rw [lf_un e]
          exact hs p (by omega)
end
section
/-- a cell sees the sky: it isn't solid, and it is on top or the cell above sees the sky -/
def lf_sk (S E : Nat → Nat) (x : Nat) : Prop := E x = if S x = 0 ∧ (216 ≤ x + 36 ∨ E (x + 36) ≠ 0) then 1 else 0
theorem lf_sk_le {S E : Nat → Nat} {x : Nat} (h : lf_sk S E x) : E x ≤ 1 := by
  unfold lf_sk at h
  rw [h]
  split <;> omega
/-- the object: levels as they must be, no rims, the sky as it must be -/
def lf_Ob (S M E V R : Nat → Nat) : Prop :=
  lf_Q (lf_o S) (lf_src M E) V R ∧ (∀ p, p < 432 → R p = 0) ∧ (∀ x, x < 216 → lf_sk S E x) ∧ (∀ c, c < 216 → S c ≤ 1) ∧ (∀ c, c < 216 → M c ≤ 12)
/-- a state of the object with solids S and lamps M -/
def lf_St (S M : Nat → Nat) (u : St1) : Prop :=
  ∃ (f : Int32) (E V R K T : Nat → Nat) (a8 a9 : Nat → Int32), u = (f, lf_a S, lf_a M, lf_a E, lf_a V, lf_a R, lf_a K, lf_a T, a8, a9) ∧ lf_Ob S M E V R
theorem lf_nar {k : Nat} (h : k ≤ 1) : vp_nar .boolean (nI k) = nI k := by
  have : k = 0 ∨ k = 1 := by omega
  rcases this with e | e
  · rw [e]
    rfl
  · rw [e]
    rfl
/-- the way down a column -/
def lf_cv (r : Nat) : Nat → Int32
  | 0 => nI r + (-36)
  | i + 1 => nI (36 * i + r)
theorem lf_cv_s (r i : Nat) : nI (36 * i + r) + (-36) = lf_cv r i := by
  cases i with
  | zero =>
    rw [show 36 * 0 + r = r by omega]
    rfl
  | succ i =>
    show nI (36 * (i + 1) + r) + (-36) = nI (36 * i + r)
    rw [show 36 * (i + 1) + r = (36 * i + r) + 36 by omega, ← nI_add, Int32.add_assoc, show nI 36 + (-36) = 0 by decide, Int32.add_zero]
theorem lf_cv_n : ∀ r, r < 36 → nI r + (-36) < 0 := by decide +kernel
/-- the second loop over the column, of cells from 36 i on -/
def lf_C (S E0 R0 : Nat → Nat) (c i k : Nat) (E R : Nat → Nat) : Prop :=
  k ≤ 1 ∧ (k = 1 ↔ (216 ≤ 36 * i + c % 36 ∨ E (36 * i + c % 36) ≠ 0)) ∧
  (∀ x, x < 216 → ¬ (x % 36 = c % 36 ∧ x < 36 * i) → lf_sk S E x) ∧
  (∀ x, x < 216 → ¬ (x % 36 = c % 36 ∧ x ≤ c) → E x = E0 x) ∧
  (∀ j, R0 j ≠ 0 → R j ≠ 0) ∧ (∀ x, x < 216 → x % 36 = c % 36 → 36 * i ≤ x → x ≤ c → R (216 + x) ≠ 0) ∧ (∀ p, p < 432 → R p ≤ 1)
theorem lf_C_step {S E0 R0 E R : Nat → Nat} {c i k k' y : Nat} (h : lf_C S E0 R0 c (i + 1) k E R) (hc : c < 216) (hy : y = 36 * i + c % 36) (hyc : y ≤ c)
    (hk : k' ≤ 1) (hk' : k' = 1 ↔ (k = 1 ∧ S y = 0)) : lf_C S E0 R0 c i k' (lf_u E y k') (lf_u R (216 + y) 1) := by
  obtain ⟨h1, h2, h3, h4, h5, h6, h7⟩ := h
  refine ⟨hk, ?_, fun x a b => ?_, fun x a b => ?_, fun j a => ?_, fun x a b d e => ?_, lf_R1 h7 (Nat.le_refl 1)⟩
  · rw [← hy, lf_us]
    constructor
    · intro g
      right
      omega
    · intro g
      rcases g with g | g <;> omega
  · by_cases e : x = y
    · have e2 : y + 36 = 36 * (i + 1) + c % 36 := by omega
      unfold lf_sk
      rw [e, lf_us, lf_un (show y + 36 ≠ y by omega), e2]
      by_cases g : S y = 0 ∧ (216 ≤ 36 * (i + 1) + c % 36 ∨ E (36 * (i + 1) + c % 36) ≠ 0)
      · rw [if_pos g]
        exact hk'.mpr ⟨h2.mpr g.2, g.1⟩
      · rw [if_neg g]
        by_cases t : k' = 1
        · exact absurd ⟨(hk'.mp t).2, h2.mp (hk'.mp t).1⟩ g
        · omega
    · have g := h3 x a (by omega)
      unfold lf_sk at g
      unfold lf_sk
      rw [lf_un e, lf_un (show x + 36 ≠ y by omega)]
      exact g
  · rw [lf_un (show x ≠ y by omega)]
    exact h4 x a b
  · by_cases e : j = 216 + y
    · rw [e, lf_us]
      omega
    · rw [lf_un e]
      exact h5 j a
  · by_cases g : x = y
    · rw [g, lf_us]
      omega
    · rw [lf_un (show 216 + x ≠ 216 + y by omega)]
      exact h6 x a b (by omega) e
theorem lf_Q_change {S M E E' V R R' : Nat → Nat} {c k : Nat} (hQ : lf_Q (lf_o S) (lf_src M E) V R) (hc : c < 216) (hV : V c = 0) (hV2 : V (216 + c) = 0)
    (hcol : ∀ x, x < 216 → x % 36 = c % 36 → x ≤ c → E x ≠ 0 → V (216 + x) = 0)
    (hE : ∀ x, x < 216 → ¬ (x % 36 = c % 36 ∧ x ≤ c) → E' x = E x) (hR : ∀ j, R j ≠ 0 → R' j ≠ 0)
    (hR1 : ∀ x, x < 216 → x % 36 = c % 36 → x ≤ c → R' (216 + x) ≠ 0)
    (hR2 : ∀ w d, w < 6 → lf_nb c w = some d → R' d ≠ 0 ∧ R' (216 + d) ≠ 0) (hR3 : ∀ p, p < 432 → R' p ≤ 1) :
    lf_Q (lf_o (lf_u S c k)) (lf_src M E') V R' := by
  obtain ⟨h1, h2, h3, h4, h5⟩ := hQ
  have hR0 : ∀ j, R' j = 0 → R j = 0 := by
    intro j g
    by_cases e : R j = 0
    · exact e
    · exact absurd g (hR j e)
  refine ⟨h1, fun p a b => ?_, fun p q a b d e => ?_, fun p a => ?_, hR3⟩
  · have g := h2 p a (hR0 p b)
    unfold lf_src at g
    unfold lf_src
    by_cases t : p < 216
    · rw [if_pos t] at g
      rw [if_pos t]
      exact g
    · rw [if_neg t] at g
      rw [if_neg t]
      rw [hE (p - 216) (by omega)]
      · exact g
      · intro z
        have := hR1 (p - 216) (by omega) z.1 z.2
        rw [show 216 + (p - 216) = p by omega] at this
        exact this b
  · obtain ⟨k1, k2, k3⟩ := lf_adj_s a b
    by_cases t : q - lf_b q = c
    · exfalso
      obtain ⟨w, x, g1, g2, g3⟩ := k3
      rw [t] at g2
      have g4 := hR2 w x g1 g2
      rcases lf_b_or q with ⟨t1, t2⟩ | ⟨t1, t2⟩
      · rw [t2, Nat.zero_add] at g3
        rw [← g3] at g4
        exact g4.1 e
      · rw [t2] at g3
        rw [← g3] at g4
        exact g4.2 e
    · unfold lf_o at d
      rw [lf_un t] at d
      exact h3 p q a b d (hR0 p e)
  · by_cases t : p - lf_b p = c
    · left
      have : V p = 0 := by
        rcases lf_b_or p with ⟨t1, t2⟩ | ⟨t1, t2⟩
        · rw [show p = c by omega]
          exact hV
        · rw [show p = 216 + c by omega]
          exact hV2
      omega
    · rcases h4 p a with g | ⟨g1, g2⟩
      · left
        unfold lf_src at g
        unfold lf_src
        by_cases z : p < 216
        · rw [if_pos z] at g
          rw [if_pos z]
          exact g
        · rw [if_neg z] at g
          rw [if_neg z]
          by_cases y : (p - 216) % 36 = c % 36 ∧ p - 216 ≤ c
          · by_cases v : E (p - 216) = 0
            · rw [if_pos v] at g
              omega
            · have := hcol (p - 216) (by omega) y.1 y.2 v
              rw [show 216 + (p - 216) = p by omega] at this
              omega
          · rw [hE (p - 216) (by omega) y]
            exact g
      · right
        refine ⟨?_, g2⟩
        unfold lf_o at g1
        unfold lf_o
        rw [lf_un t]
        exact g1
theorem lf_Q_lamp {S M E V R : Nat → Nat} {c x : Nat} (hQ : lf_Q (lf_o S) (lf_src M E) V R) (hc : c < 216) (hV : V c = 0) :
    lf_Q (lf_o S) (lf_src (lf_u M c x) E) V (lf_u R c 1) := by
  obtain ⟨h1, h2, h3, h4, h5⟩ := hQ
  have hs : ∀ p, p ≠ c → lf_src (lf_u M c x) E p = lf_src M E p := by
    intro p e
    unfold lf_src
    rw [lf_un e]
  have hR0 : ∀ p, lf_u R c 1 p = 0 → p ≠ c ∧ R p = 0 := by
    intro p g
    by_cases e : p = c
    · rw [e, lf_us] at g
      omega
    · rw [lf_un e] at g
      exact ⟨e, g⟩
  refine ⟨h1, fun p a b => ?_, fun p q a b d e => h3 p q a b d (hR0 p e).2, fun p a => ?_, lf_R1 h5 (Nat.le_refl 1)⟩
  · obtain ⟨g1, g2⟩ := hR0 p b
    rw [hs p g1]
    exact h2 p a g2
  · by_cases e : p = c
    · left
      rw [e, hV]
      omega
    · rw [hs p e]
      exact h4 p a
theorem lf_c117 {post : St1 → Prop} {J93 : Int32 → Int32 → (Nat → Int32) → (Nat → Int32) → (Nat → Int32) → (Nat → Int32) → (Nat → Int32) → (Nat → Int32) → (Nat → Int32) → (Nat → Int32) → (Nat → Int32) → Prop}
    {x1 f x' : Int32} {a1 a2 a4 a6 a7 a8 a9 : Nat → Int32} {E R : Nat → Nat} {y k : Nat} (hy : y < 216) (hk : k ≤ 1) (hx : nI y + (-36) = x')
    (H : J93 (nI k) x' a1 a2 (lf_a (lf_u E y k)) a4 (lf_a (lf_u R (216 + y) 1)) a6 a7 a8 a9) :
    wX_change_117 post J93 x1 (nI y) (nI k) f a1 a2 (lf_a E) a4 (lf_a R) a6 a7 a8 a9 := by
  unfold wX_change_117
  exact ⟨pk_in y 216 hy, nm_r (lf_updN rfl (by omega) (lf_nar hk)) ⟨pk_in (216 + y) 432 (by omega) (nI_add 216 y), nm_r (lf_updN (x := 1) (nI_add 216 y) (by omega) rfl) (nm_r hx H)⟩⟩
theorem lf_ch154 {post : St1 → Prop} {f : Int32} {a6 a7 a8 a9 : Nat → Int32} {S M E V R : Nat → Nat} {c : Nat} (hc : c < 216) (hS : ∀ c, c < 216 → S c ≤ 1) (hM : ∀ c, c < 216 → M c ≤ 12) (hE : ∀ c, c < 216 → E c ≤ 1)
    (hR1 : ∀ p, p < 432 → R p ≤ 1)
    (hQ : ∀ R', (∀ j, R j ≠ 0 → R' j ≠ 0) → (∀ w d, w < 6 → lf_nb c w = some d → R' d ≠ 0 ∧ R' (216 + d) ≠ 0) → (∀ p, p < 432 → R' p ≤ 1) → lf_Q (lf_o S) (lf_src M E) V R')
    (H : ∀ V' R', lf_Q (lf_o S) (lf_src M E) V' R' → (∀ p, p < 432 → R' p = 0) → post (f, lf_a S, lf_a M, lf_a E, lf_a V', lf_a R', a6, a7, a8, a9)) :
    ∃ n, wX_change_154 post (nI c) f n 0 (lf_a S) (lf_a M) (lf_a E) (lf_a V) (lf_a R) a6 a7 a8 a9 := by
  refine pk_loop (fun n i R => wX_change_154 post (nI c) f n (nI i) (lf_a S) (lf_a M) (lf_a E) (lf_a V) (lf_a R) a6 a7 a8 a9)
    (fun i R' => (∀ j, R j ≠ 0 → R' j ≠ 0) ∧ (∀ w d, w < i → lf_nb c w = some d → R' d ≠ 0 ∧ R' (216 + d) ≠ 0) ∧ (∀ p, p < 432 → R' p ≤ 1)) 6 0 R (by omega)
    ⟨fun j a => a, fun w d a => absurd a (by omega), hR1⟩ ?_ ?_
  · intro n R' ⟨g1, g2, g3⟩
    exact pk_le 6 6 (fun _ => lf_flow hS hM hE (hQ R' g1 g2 g3) H) (fun z => absurd z (by omega))
  · intro n i R' hi ⟨g1, g2, g3⟩ hw
    refine pk_le 6 i (fun z => absurd z (by omega)) (fun _ => ?_)
    refine lf_neighX rfl hc hi (fun hn => ?_) (fun d hd hn => ?_)
    · refine br_t rfl (nm_r (nI_1 i) (hw R' ⟨g1, fun w d a b => ?_, g3⟩))
      by_cases e : w = i
      · rw [e, hn] at b
        exact absurd b (by simp)
      · exact g2 w d (by omega) b
    · refine br_f (lf_nm1 (by omega)) ⟨pk_in d 432 (by omega), nm_r (lf_updN (x := 1) rfl (by omega) rfl) ⟨pk_in (216 + d) 432 (by omega) (nI_add 216 d),
        nm_r (lf_updN (x := 1) (nI_add 216 d) (by omega) rfl) (nm_r (nI_1 i) (hw _ ⟨fun j a => ?_, fun w d' a b => ?_, lf_R1 (lf_R1 g3 (Nat.le_refl 1)) (Nat.le_refl 1)⟩))⟩⟩
      · have k := g1 j a
        by_cases e : j = 216 + d
        · rw [e, lf_us]
          omega
        · rw [lf_un e]
          by_cases e' : j = d
          · rw [e', lf_us]
            omega
          · rw [lf_un e']
            exact k
      · have up : ∀ j, R' j ≠ 0 → lf_u (lf_u R' d 1) (216 + d) 1 j ≠ 0 := by
          intro j k
          by_cases e : j = 216 + d
          · rw [e, lf_us]
            omega
          · rw [lf_un e]
            by_cases e' : j = d
            · rw [e', lf_us]
              omega
            · rw [lf_un e']
              exact k
        by_cases e : w = i
        · rw [e, hn] at b
          have e' : d = d' := Option.some.inj b
          rw [← e']
          refine ⟨?_, ?_⟩
          · rw [lf_un (show d ≠ 216 + d by omega), lf_us]
            omega
          · rw [lf_us]
            omega
        · have k := g2 w d' (by omega) b
          exact ⟨up _ k.1, up _ k.2⟩
end
section
theorem lf_ch93 {post : St1 → Prop} {f : Int32} {a6 a7 a8 a9 : Nat → Int32} {S M E0 R0 E V R : Nat → Nat} {c k : Nat} (hc : c < 216) (hS : ∀ c, c < 216 → S c ≤ 1) (hM : ∀ c, c < 216 → M c ≤ 12)
    (hC : lf_C S E0 R0 c (c / 36 + 1) k E R)
    (hQ : ∀ E' R', (∀ x, x < 216 → ¬ (x % 36 = c % 36 ∧ x ≤ c) → E' x = E0 x) → (∀ j, R0 j ≠ 0 → R' j ≠ 0) → (∀ x, x < 216 → x % 36 = c % 36 → x ≤ c → R' (216 + x) ≠ 0) →
      (∀ w d, w < 6 → lf_nb c w = some d → R' d ≠ 0 ∧ R' (216 + d) ≠ 0) → (∀ p, p < 432 → R' p ≤ 1) → lf_Q (lf_o S) (lf_src M E') V R')
    (H : ∀ E' V' R', (∀ x, x < 216 → lf_sk S E' x) → lf_Q (lf_o S) (lf_src M E') V' R' → (∀ p, p < 432 → R' p = 0) → post (f, lf_a S, lf_a M, lf_a E', lf_a V', lf_a R', a6, a7, a8, a9)) :
    ∃ n, wX_change_93 post (nI c) f n (nI k) (nI c) (lf_a S) (lf_a M) (lf_a E) (lf_a V) (lf_a R) a6 a7 a8 a9 := by
  have hr : c % 36 < 36 := Nat.mod_lt _ (by omega)
  have e : lf_cv (c % 36) (c / 36 + 1) = nI c := by
    show nI (36 * (c / 36) + c % 36) = nI c
    rw [Nat.div_add_mod]
  have main := pk_loopD (σ := Nat × (Nat → Nat) × (Nat → Nat)) (fun n i t => wX_change_93 post (nI c) f n (nI t.1) (lf_cv (c % 36) i) (lf_a S) (lf_a M) (lf_a t.2.1) (lf_a V) (lf_a t.2.2) a6 a7 a8 a9)
    (fun i t => i ≤ c / 36 + 1 ∧ lf_C S E0 R0 c i t.1 t.2.1 t.2.2) ?_ ?_ (c / 36 + 1) (k, E, R) ⟨Nat.le_refl _, hC⟩
  · have main2 : wX_change_93 post (nI c) f (c / 36 + 1 + 1) (nI k) (lf_cv (c % 36) (c / 36 + 1)) (lf_a S) (lf_a M) (lf_a E) (lf_a V) (lf_a R) a6 a7 a8 a9 := main
    rw [e] at main2
    exact ⟨_, main2⟩
  · intro n t ⟨_, hC⟩
    obtain ⟨k, E, R⟩ := t
    obtain ⟨g1, g2, g3, g4, g5, g6, g7⟩ := hC
    refine br_t (show lf_cv (c % 36) 0 < 0 from lf_cv_n _ hr) ⟨pk_in c 432 (by omega), nm_r (lf_updN (x := 1) rfl (by omega) rfl) ?_⟩
    have up : ∀ j, R j ≠ 0 → lf_u R c 1 j ≠ 0 := by
      intro j a
      by_cases e : j = c
      · rw [e, lf_us]
        omega
      · rw [lf_un e]
        exact a
    refine lf_ch154 hc hS hM (fun x hx => lf_sk_le (g3 x hx (by omega))) (lf_R1 g7 (Nat.le_refl 1)) (fun R' k1 k2 k3 => hQ E R' g4 (fun j a => k1 j (up j (g5 j a))) (fun x a b d => k1 _ (up _ (g6 x a b (by omega) d))) k2 k3)
      (fun V' R' k1 k2 => H E V' R' (fun x hx => g3 x hx (by omega)) k1 k2)
  · intro n i t ⟨hi, hC⟩ hw
    obtain ⟨k, E, R⟩ := t
    have hy : 36 * i + c % 36 < 216 := by omega
    have hyc : 36 * i + c % 36 ≤ c := by omega
    have hk : k ≤ 1 := hC.1
    have hSy := hS _ hy
    have k0 : (k = 0 ∨ S (36 * i + c % 36) ≠ 0) → wX_change_117 post (wX_change_93 post (nI c) f n) (nI c) (nI (36 * i + c % 36)) (nI 0) f (lf_a S) (lf_a M) (lf_a E) (lf_a V) (lf_a R) a6 a7 a8 a9 := by
      intro hk0
      refine lf_c117 hy (by omega) (lf_cv_s _ i) ?_
      refine hw (0, _, _) ⟨by omega, lf_C_step hC hc rfl hyc (by omega) ?_⟩
      constructor
      · intro z
        exact absurd z (by omega)
      · intro z
        exfalso
        dsimp only at z
        omega
    refine br_f (nI_pos (show 36 * i + c % 36 < 2 ^ 31 by omega)) ?_
    refine pk_eq k 0 (fun z => k0 (Or.inl z)) (fun z => ⟨pk_in (36 * i + c % 36) 216 hy, ?_⟩)
    refine pk_eq (S (36 * i + c % 36)) 0 (fun g => ?_) (fun g => k0 (Or.inr g)) (lf_at rfl (by omega)) rfl (by omega) (by omega)
    refine lf_c117 (k := 1) hy (by omega) (lf_cv_s _ i) ?_
    refine hw (1, _, _) ⟨by omega, lf_C_step hC hc rfl hyc (by omega) ?_⟩
    constructor
    · intro _
      dsimp only
      exact ⟨by omega, g⟩
    · intro _
      rfl
theorem lf_ch27 {post : St1 → Prop} {f : Int32} {a8 a9 : Nat → Int32} {S M E V R K T : Nat → Nat} {c k : Nat} (hc : c < 216) (hk : k ≤ 1) (hS : ∀ c, c < 216 → S c ≤ 1) (hM : ∀ c, c < 216 → M c ≤ 12)
    (hE : ∀ x, x < 216 → lf_sk S E x) (hQ : lf_Q (lf_o S) (lf_src M E) V R) (hV : V c = 0) (hV2 : V (216 + c) = 0)
    (H : ∀ u', lf_St (lf_u S c k) M u' → post u') :
    ∃ n, wX_change_27 post (nI c) (nI k) n (nI c) f (lf_a S) (lf_a M) (lf_a E) (lf_a V) (lf_a R) (lf_a K) (lf_a T) a8 a9 := by
  have hr : c % 36 < 36 := Nat.mod_lt _ (by omega)
  have e : lf_cv (c % 36) (c / 36 + 1) = nI c := by
    show nI (36 * (c / 36) + c % 36) = nI c
    rw [Nat.div_add_mod]
  have main := pk_loopD (σ := Int32 × (Nat → Nat) × (Nat → Nat) × (Nat → Nat) × (Nat → Nat))
    (fun n i t => wX_change_27 post (nI c) (nI k) n (lf_cv (c % 36) i) t.1 (lf_a S) (lf_a M) (lf_a E) (lf_a t.2.1) (lf_a t.2.2.1) (lf_a t.2.2.2.1) (lf_a t.2.2.2.2) a8 a9)
    (fun i t => i ≤ c / 36 + 1 ∧ lf_Q (lf_o S) (lf_src M E) t.2.1 t.2.2.1 ∧ t.2.1 c = 0 ∧ t.2.1 (216 + c) = 0 ∧ ∀ x, x < 216 → x % 36 = c % 36 → 36 * i ≤ x → x ≤ c → E x ≠ 0 → t.2.1 (216 + x) = 0)
    ?_ ?_ (c / 36 + 1) (f, V, R, K, T) ⟨Nat.le_refl _, hQ, hV, hV2, fun x _ _ a b => absurd a (by omega)⟩
  · have main2 : wX_change_27 post (nI c) (nI k) (c / 36 + 1 + 1) (lf_cv (c % 36) (c / 36 + 1)) f (lf_a S) (lf_a M) (lf_a E) (lf_a V) (lf_a R) (lf_a K) (lf_a T) a8 a9 := main
    rw [e] at main2
    exact ⟨_, main2⟩
  · intro n t ⟨_, hQ, hV, hV2, hcol⟩
    obtain ⟨f, V, R, K, T⟩ := t
    dsimp only at hQ hV hV2 hcol
    have hS' : ∀ x, x < 216 → lf_u S c k x ≤ 1 := by
      intro x hx
      by_cases e : x = c
      · rw [e, lf_us]
        exact hk
      · rw [lf_un e]
        exact hS x hx
    have key : ∀ q, q ≤ 1 → (q = 1 ↔ (216 ≤ c + 36 ∨ E (c + 36) ≠ 0)) → ∃ n, wX_change_93 post (nI c) f n (nI q) (nI c) (lf_a (lf_u S c k)) (lf_a M) (lf_a E) (lf_a V) (lf_a R) (lf_a K) (lf_a T) a8 a9 := by
      intro q hq hq2
      have e2 : 36 * (c / 36 + 1) + c % 36 = c + 36 := by omega
      refine lf_ch93 (E0 := E) (R0 := R) hc hS' hM ⟨hq, by rw [e2]; exact hq2, fun x a b => ?_, fun x _ _ => rfl, fun j a => a, fun x _ _ a b => absurd a (by omega), hQ.2.2.2.2⟩
        (fun E' R' k1 k2 k3 k4 k5 => lf_Q_change hQ hc hV hV2 (fun x a b d g => hcol x a b (by omega) d g) k1 k2 k3 k4 k5)
        (fun E' V' R' k1 k2 k3 => H _ ⟨f, E', V', R', K, T, a8, a9, rfl, k2, k3, k1, hS', hM⟩)
      have g := hE x a
      unfold lf_sk at g
      unfold lf_sk
      rw [lf_un (show x ≠ c by omega)]
      exact g
    refine br_t (show lf_cv (c % 36) 0 < 0 from lf_cv_n _ hr) ⟨pk_in c 216 hc, nm_r (lf_updN rfl (by omega) (lf_nar hk)) ?_⟩
    refine pk_le 216 (c + 36) (fun z => key 1 (by omega) ⟨fun _ => Or.inl z, fun _ => rfl⟩) (fun z => ⟨pk_in (c + 36) 216 z (nI_add c 36), ?_⟩) rfl (nI_add c 36) (by omega) (by omega)
    have hE1 := lf_sk_le (hE (c + 36) z)
    refine pk_eq (E (c + 36)) 0 (fun g => key 0 (by omega) ⟨fun y => absurd y (by omega), fun y => ?_⟩) (fun g => key 1 (by omega) ⟨fun _ => Or.inr g, fun _ => rfl⟩) (lf_at (nI_add c 36) (by omega)) rfl (by omega) (by omega)
    rcases y with y | y <;> omega
  · intro n i t ⟨hi, hQ, hV, hV2, hcol⟩ hw
    obtain ⟨f, V, R, K, T⟩ := t
    dsimp only at hQ hV hV2 hcol
    have hy : 36 * i + c % 36 < 216 := by omega
    have hE1 := lf_sk_le (hE _ hy)
    refine br_f (nI_pos (show 36 * i + c % 36 < 2 ^ 31 by omega)) ⟨pk_in (36 * i + c % 36) 216 hy, ?_⟩
    refine pk_eq (E (36 * i + c % 36)) 0 (fun z => ?_) (fun z => ?_) (lf_at rfl (by omega)) rfl (by omega) (by omega)
    · refine nm_r (lf_cv_s _ i) (hw (f, V, R, K, T) ⟨by omega, hQ, hV, hV2, fun x a b d g y => ?_⟩)
      by_cases e : x = 36 * i + c % 36
      · rw [e] at y
        exact absurd z y
      · exact hcol x a b (by omega) g y
    · refine lf_takeAway (nI_add 216 _) (by omega) hQ (fun f' V' R' K' T' q1 q2 q3 => ?_)
      refine nm_r (lf_cv_s _ i) (hw (f', V', R', K', T') ⟨by omega, q1, ?_, ?_, fun x a b d g y => ?_⟩)
      · have : V' c ≤ V c := q3 c
        dsimp only
        omega
      · have : V' (216 + c) ≤ V (216 + c) := q3 (216 + c)
        dsimp only
        omega
      · dsimp only
        by_cases e : x = 36 * i + c % 36
        · rw [e]
          exact q2
        · have := hcol x a b (by omega) g y
          have : V' (216 + x) ≤ V (216 + x) := q3 (216 + x)
          omega
theorem lf_change {post : St1 → Prop} {u : St1} {S M : Nat → Nat} {c k : Nat} (hu : lf_St S M u) (hc : c < 216) (hk : k ≤ 1)
    (H : ∀ u', lf_St (lf_u S c k) M u' → post u') : wpX_change post u (nI c) (nI k) := by
  have hu' := hu
  obtain ⟨f, E, V, R, K, T, a8, a9, rfl, hQ, hR, hE, hS, hM⟩ := hu
  have hSc := hS c hc
  unfold wpX_change
  refine ⟨pk_in c 216 hc, pk_eq (S c) k (fun z => ?_) (fun z => ?_) (lf_at rfl (by omega)) rfl (by omega) (by omega)⟩
  · refine H _ ?_
    rw [lf_u_same z]
    exact hu'
  · refine lf_takeAway rfl (by omega) hQ (fun f1 V1 R1 K1 T1 q1 q2 q3 => ?_)
    refine lf_takeAway (nI_add 216 c) (by omega) q1 (fun f2 V2 R2 K2 T2 p1 p2 p3 => ?_)
    refine lf_ch27 hc hk hS hM hE p1 ?_ p2 H
    have := p3 c
    omega
theorem lf_setLamp {post : St1 → Prop} {u : St1} {S M : Nat → Nat} {c x : Nat} (hu : lf_St S M u) (hc : c < 216) (hx : x ≤ 12)
    (H : ∀ u', lf_St S (lf_u M c x) u' → post u') : wpX_setLamp post u (nI c) (nI x) := by
  obtain ⟨f, E, V, R, K, T, a8, a9, rfl, hQ, hR, hE, hS, hM⟩ := hu
  have hM' : ∀ y, y < 216 → lf_u M c x y ≤ 12 := by
    intro y hy
    by_cases e : y = c
    · rw [e, lf_us]
      exact hx
    · rw [lf_un e]
      exact hM y hy
  unfold wpX_setLamp
  refine lf_takeAway rfl (by omega) hQ (fun f1 V1 R1 K1 T1 q1 q2 q3 => ?_)
  refine ⟨pk_in c 216 hc, nm_r (lf_updN rfl (by omega) rfl) ⟨pk_in c 432 (by omega), nm_r (lf_updN (x := 1) rfl (by omega) rfl) ?_⟩⟩
  refine lf_flow hS hM' (fun y hy => lf_sk_le (hE y hy)) (lf_Q_lamp q1 hc q2) (fun V' R' p1 p2 => ?_)
  exact H _ ⟨f1, E, V', R', K1, T1, a8, a9, rfl, p1, p2, hE, hS, hM'⟩
theorem lf_lamp {post : Int32 → St1 → Prop} {u : St1} {S M : Nat → Nat} {c x : Nat} (hu : lf_St S M u) (hc : c < 216) (hx : x ≤ 12)
    (H : ∀ u', lf_St S (lf_u M c x) u' → post (nI (M c)) u') : wpX_lamp post u (nI c) (nI x) := by
  have hu' := hu
  obtain ⟨f, E, V, R, K, T, a8, a9, rfl, hQ, hR, hE, hS, hM⟩ := hu
  unfold wpX_lamp
  refine lf_isCell hc (br_f (by decide) (br_f (nI_pos (by omega)) ?_))
  refine pk_le x 12 (fun _ => ⟨pk_in c 216 hc, nm_r (lf_at rfl (by omega)) ?_⟩) (fun z => absurd z (by omega))
  refine lf_setLamp hu' hc hx (fun u' h' => ?_)
  obtain ⟨f', E', V', R', K', T', b8, b9, rfl, k'⟩ := h'
  exact H _ ⟨f', E', V', R', K', T', b8, b9, rfl, k'⟩
theorem lf_solid {post : Int32 → St1 → Prop} {u : St1} {S M : Nat → Nat} {c : Nat} {x : Int32} {k : Nat} (hu : lf_St S M u) (hc : c < 216) (hx : (x = 0 ∧ k = 0) ∨ (¬ x = 0 ∧ k = 1))
    (H : ∀ r u', lf_St (lf_u S c k) M u' → post r u') : wpX_solid post u (nI c) x := by
  have hu' := hu
  obtain ⟨f, E, V, R, K, T, a8, a9, rfl, hQ, hR, hE, hS, hM⟩ := hu
  have hSc := hS c hc
  have key : ∀ z0 : Int32, wX_solid_23 post (nI c) x z0 f (lf_a S) (lf_a M) (lf_a E) (lf_a V) (lf_a R) (lf_a K) (lf_a T) a8 a9 := by
    intro z0
    unfold wX_solid_23 wX_solid_35
    rcases hx with ⟨h1, h2⟩ | ⟨h1, h2⟩
    · refine br_t h1 ?_
      subst h2
      refine lf_change hu' hc (k := 0) (by omega) (fun u' h' => ?_)
      obtain ⟨f', E', V', R', K', T', b8, b9, rfl, k'⟩ := h'
      exact H _ _ ⟨f', E', V', R', K', T', b8, b9, rfl, k'⟩
    · refine br_f h1 ?_
      subst h2
      refine lf_change hu' hc (k := 1) (by omega) (fun u' h' => ?_)
      obtain ⟨f', E', V', R', K', T', b8, b9, rfl, k'⟩ := h'
      exact H _ _ ⟨f', E', V', R', K', T', b8, b9, rfl, k'⟩
  unfold wpX_solid
  refine lf_isCell hc (br_f (by decide) ⟨pk_in c 216 hc, ?_⟩)
  exact br_c (fun _ => key 0) (fun _ => key 1)
end
section
/-- a method that answers an int: it ends, with an answer that its arguments alone say -/
def lf_D (W : (Int32 → Prop) → Prop) : Prop := ∃ r : Int32, ∀ post : Int32 → Prop, post r → W post
theorem lf_D_p (r : Int32) : lf_D (fun post => post r) := ⟨r, fun _ h => h⟩
theorem lf_D_if {c : Prop} {A B : (Int32 → Prop) → Prop} (a : lf_D A) (b : lf_D B) : lf_D (fun post => (c → A post) ∧ (¬ c → B post)) := by
  by_cases h : c
  · obtain ⟨r, k⟩ := a
    exact ⟨r, fun post g => br_t h (k post g)⟩
  · obtain ⟨r, k⟩ := b
    exact ⟨r, fun post g => br_f h (k post g)⟩
theorem lf_D_and {c : Prop} {A : (Int32 → Prop) → Prop} (h : c) (a : lf_D A) : lf_D (fun post => c ∧ A post) := by
  obtain ⟨r, k⟩ := a
  exact ⟨r, fun post g => ⟨h, k post g⟩⟩
theorem lf_D_bind {W : (Int32 → Prop) → Prop} {A : Int32 → (Int32 → Prop) → Prop} (a : lf_D W) (b : ∀ r, lf_D (A r)) : lf_D (fun post => W (fun r => A r post)) := by
  obtain ⟨r, k⟩ := a
  obtain ⟨r', k'⟩ := b r
  exact ⟨r', fun post g => k _ (k' post g)⟩
theorem lf_D_cell (x : Int32) : lf_D (fun post => wpX_isCell post () x) := by
  unfold wpX_isCell
  exact lf_D_if (lf_D_p 0) (lf_D_if (lf_D_p 0) (lf_D_p 1))
theorem lf_D_isBox (x y : Int32) : lf_D (fun post => wpX_isBox post () x y) := by
  unfold wpX_isBox
  refine lf_D_bind (W := fun post => wpX_isCell post () x) (lf_D_cell x) (fun r => ?_)
  refine lf_D_if (lf_D_p 0) ?_
  refine lf_D_bind (W := fun post => wpX_isCell post () y) (lf_D_cell y) (fun r => ?_)
  refine lf_D_if (lf_D_p 0) (lf_D_and (by decide) (lf_D_and (by decide) (lf_D_if (lf_D_p 0) ?_)))
  refine lf_D_and (by decide) (lf_D_and (by decide) (lf_D_and (by decide) (lf_D_and (by decide) (lf_D_if (lf_D_p 0) ?_))))
  exact lf_D_and (by decide) (lf_D_and (by decide) (lf_D_if (lf_D_p 0) (lf_D_p 1)))
theorem lf_D_in67 (x0 x1 x2 x3 z : Int32) : lf_D (fun post => wX_inBox_67 post x0 x1 x2 x3 z) := by
  unfold wX_inBox_67
  refine lf_D_if (lf_D_p 0) (lf_D_if (lf_D_p 0) (lf_D_and (by decide) (lf_D_and (by decide) (lf_D_if (lf_D_p 0) ?_))))
  exact lf_D_and (by decide) (lf_D_and (by decide) (lf_D_if (lf_D_p 0) (lf_D_p 1)))
theorem lf_D_in27 (x0 x1 x2 z : Int32) : lf_D (fun post => wX_inBox_27 post x0 x1 x2 z) := by
  unfold wX_inBox_27 wX_inBox_66
  refine lf_D_and (by decide) (lf_D_and (by decide) (lf_D_and (by decide) (lf_D_and (by decide) (lf_D_if (lf_D_in67 _ _ _ _ _) ?_))))
  exact lf_D_and (by decide) (lf_D_and (by decide) (lf_D_and (by decide) (lf_D_and (by decide) (lf_D_if (lf_D_in67 _ _ _ _ _) (lf_D_in67 _ _ _ _ _)))))
theorem lf_D_inBox (x y z : Int32) : lf_D (fun post => wpX_inBox post () x y z) := by
  unfold wpX_inBox wX_inBox_26
  refine lf_D_and (by decide) (lf_D_and (by decide) (lf_D_if (lf_D_in27 _ _ _ _) ?_))
  exact lf_D_and (by decide) (lf_D_and (by decide) (lf_D_if (lf_D_in27 _ _ _ _) (lf_D_in27 _ _ _ _)))
theorem lf_D_on67 (x0 x1 x2 x3 z : Int32) : lf_D (fun post => wX_onWall_67 post x0 x1 x2 x3 z) := by
  unfold wX_onWall_67
  refine lf_D_if (lf_D_if (lf_D_and (by decide) (lf_D_and (by decide) (lf_D_if (lf_D_p 1) ?_))) (lf_D_p 1)) (lf_D_p 1)
  exact lf_D_and (by decide) (lf_D_and (by decide) (lf_D_if (lf_D_p 1) (lf_D_p 0)))
theorem lf_D_on27 (x0 x1 x2 z : Int32) : lf_D (fun post => wX_onWall_27 post x0 x1 x2 z) := by
  unfold wX_onWall_27 wX_onWall_62
  refine lf_D_and (by decide) (lf_D_and (by decide) (lf_D_and (by decide) (lf_D_and (by decide) (lf_D_if (lf_D_on67 _ _ _ _ _) ?_))))
  exact lf_D_and (by decide) (lf_D_and (by decide) (lf_D_and (by decide) (lf_D_and (by decide) (lf_D_if (lf_D_on67 _ _ _ _ _) (lf_D_on67 _ _ _ _ _)))))
theorem lf_D_onWall (x y z : Int32) : lf_D (fun post => wpX_onWall post () x y z) := by
  unfold wpX_onWall wX_onWall_22
  refine lf_D_and (by decide) (lf_D_and (by decide) (lf_D_if (lf_D_on27 _ _ _ _) ?_))
  exact lf_D_and (by decide) (lf_D_and (by decide) (lf_D_if (lf_D_on27 _ _ _ _) (lf_D_on27 _ _ _ _)))
theorem lf_D_low (x : Int32) : lf_D (fun post => wpL_low post () x) := by
  unfold wpL_low
  exact lf_D_and (by decide) (lf_D_p _)
theorem lf_D_up (x y : Int32) : lf_D (fun post => wpL_up post () x y) := by
  unfold wpL_up
  exact lf_D_if (lf_D_p _) (lf_D_p 5)
theorem lf_D_high (x y : Int32) : lf_D (fun post => wpL_high post () x y) := by
  unfold wpL_high
  refine lf_D_bind (W := fun post => wpL_low post () x) (lf_D_low x) (fun r => lf_D_and (by decide) ?_)
  refine lf_D_bind (W := fun post => wpL_up post () _ _) (lf_D_up _ _) (fun r => lf_D_and (by decide) (lf_D_and (by decide) ?_))
  refine lf_D_bind (W := fun post => wpL_up post () _ _) (lf_D_up _ _) (fun r => lf_D_and (by decide) ?_)
  exact lf_D_bind (W := fun post => wpL_up post () _ _) (lf_D_up _ _) (fun r => lf_D_p _)
/-- solids after the first i cells of a fill -/
def lf_fS (g : Nat → Int32) (k : Nat) (S : Nat → Nat) : Nat → Nat → Nat
  | 0 => S
  | i + 1 => if g i = 0 then lf_fS g k S i else lf_u (lf_fS g k S i) i k
theorem lf_fS0 {g : Nat → Int32} {k i : Nat} {S : Nat → Nat} (h : g i = 0) : lf_fS g k S (i + 1) = lf_fS g k S i := if_pos h
theorem lf_fS1 {g : Nat → Int32} {k i : Nat} {S : Nat → Nat} (h : ¬ g i = 0) : lf_fS g k S (i + 1) = lf_u (lf_fS g k S i) i k := if_neg h
/-- a call that changes the object: it ends, and the new solids and lamps depend on the old ones and the arguments alone -/
def lf_A (W : (Int32 → St1 → Prop) → St1 → Prop) : Prop :=
  ∀ S M : Nat → Nat, ∃ S' M' : Nat → Nat, ∀ (u : St1) (post : Int32 → St1 → Prop), lf_St S M u → (∀ r u', lf_St S' M' u' → post r u') → W post u
theorem lf_fill (p0 p1 p2 : Int32) : lf_A (fun post u => wpX_fill post u p0 p1 p2) := by
  intro S M
  obtain ⟨r, hr⟩ := lf_D_isBox p0 p1
  by_cases h0 : r = 0
  · refine ⟨S, M, fun u post hu H => ?_⟩
    have hu' := hu
    obtain ⟨f, E, V, R, K, T, a8, a9, rfl, hOb⟩ := hu
    unfold wpX_fill
    exact hr _ (br_t h0 (H _ _ hu'))
  · obtain ⟨g, hg⟩ := Classical.axiomOfChoice (fun i : Nat => lf_D_inBox (nI i) p0 p1)
    have hk : ∃ k, k ≤ 1 ∧ ((p2 = 0 ∧ k = 0) ∨ (¬ p2 = 0 ∧ k = 1)) := by
      by_cases e : p2 = 0
      · exact ⟨0, by omega, Or.inl ⟨e, rfl⟩⟩
      · exact ⟨1, by omega, Or.inr ⟨e, rfl⟩⟩
    obtain ⟨k, hk1, hk⟩ := hk
    refine ⟨lf_fS g k S 216, M, fun u post hu H => ?_⟩
    have hu' := hu
    obtain ⟨f, E, V, R, K, T, a8, a9, rfl, hOb⟩ := hu
    unfold wpX_fill
    refine hr _ (br_f h0 ?_)
    refine pk_loop (σ := Int32 × St1) (fun n i s => wX_fill_16 post p0 p1 p2 n s.1 (nI i) s.2.1 s.2.2.1 s.2.2.2.1 s.2.2.2.2.1 s.2.2.2.2.2.1 s.2.2.2.2.2.2.1 s.2.2.2.2.2.2.2.1 s.2.2.2.2.2.2.2.2.1 s.2.2.2.2.2.2.2.2.2.1 s.2.2.2.2.2.2.2.2.2.2)
      (fun i s => lf_St (lf_fS g k S i) M s.2) 216 0 (0, (f, lf_a S, lf_a M, lf_a E, lf_a V, lf_a R, lf_a K, lf_a T, a8, a9)) (by omega) hu' ?_ ?_
    · intro n s h
      exact pk_le 216 216 (fun _ => H _ _ h) (fun z => absurd z (by omega))
    · intro n i s hi h hw
      obtain ⟨x4, u⟩ := s
      have h' := h
      obtain ⟨f, E, V, R, K, T, a8, a9, hu, hOb⟩ := h
      dsimp only at hu
      subst hu
      have hSi := hOb.2.2.2.1 i hi
      refine pk_le 216 i (fun z => absurd z (by omega)) (fun _ => ?_)
      refine hg i _ ?_
      by_cases hgi : g i = 0
      · refine br_t hgi (nm_r (nI_1 i) (hw (x4, _) ?_))
        rw [lf_fS0 hgi]
        exact h'
      · refine br_f hgi ⟨pk_in i 216 hi, ?_⟩
        have key : ∀ z : Int32, z = nI k → wX_fill_50 post (wX_fill_16 post p0 p1 p2 n) p0 p1 p2 x4 (nI i) z (lf_a (lf_fS g k S i) (nI i).toNatClampNeg) f (lf_a (lf_fS g k S i)) (lf_a M) (lf_a E) (lf_a V) (lf_a R) (lf_a K) (lf_a T) a8 a9 := by
          intro z hz
          unfold wX_fill_50
          refine pk_eq (lf_fS g k S i i) k (fun e => ?_) (fun e => ?_) (lf_at rfl (by omega)) hz (by omega) (by omega)
          · refine nm_r (nI_1 i) (hw (x4, (f, lf_a (lf_fS g k S i), lf_a M, lf_a E, lf_a V, lf_a R, lf_a K, lf_a T, a8, a9)) ?_)
            rw [lf_fS1 hgi, lf_u_same e]
            exact h'
          · have key2 : ∀ y : Int32, y = nI k → wX_fill_65 post (wX_fill_16 post p0 p1 p2 n) p0 p1 p2 x4 (nI i) y (nI i) f (lf_a (lf_fS g k S i)) (lf_a M) (lf_a E) (lf_a V) (lf_a R) (lf_a K) (lf_a T) a8 a9 := by
              intro y hy
              subst hy
              unfold wX_fill_65
              refine lf_change h' hi hk1 (fun u' q => ?_)
              rw [← lf_fS1 hgi] at q
              have q' := q
              obtain ⟨f', E', V', R', K', T', b8, b9, rfl, _⟩ := q
              exact nm_e (nm_r (nI_1 i) (hw (x4 + 1, _) q'))
            rcases hk with ⟨t1, t2⟩ | ⟨t1, t2⟩
            · exact br_t t1 (key2 0 (by rw [t2]; rfl))
            · exact br_f t1 (key2 1 (by rw [t2]; rfl))
        rcases hk with ⟨t1, t2⟩ | ⟨t1, t2⟩
        · exact br_t t1 (key 0 (by rw [t2]; rfl))
        · exact br_f t1 (key 1 (by rw [t2]; rfl))
theorem lf_shell (p0 p1 : Int32) : lf_A (fun post u => wpX_shell post u p0 p1) := by
  intro S M
  obtain ⟨r, hr⟩ := lf_D_isBox p0 p1
  by_cases h0 : r = 0
  · refine ⟨S, M, fun u post hu H => ?_⟩
    have hu' := hu
    obtain ⟨f, E, V, R, K, T, a8, a9, rfl, hOb⟩ := hu
    unfold wpX_shell
    exact hr _ (br_t h0 (H _ _ hu'))
  · obtain ⟨g, hg⟩ := Classical.axiomOfChoice (fun i : Nat => lf_D_inBox (nI i) p0 p1)
    obtain ⟨v, hv⟩ := Classical.axiomOfChoice (fun i : Nat => lf_D_onWall (nI i) p0 p1)
    have e0 : ∀ i, g i = 0 → (fun i => if g i = 0 then 0 else v i) i = 0 := fun i h => if_pos h
    have e1 : ∀ i, ¬ g i = 0 → (fun i => if g i = 0 then 0 else v i) i = v i := fun i h => if_neg h
    refine ⟨lf_fS (fun i => if g i = 0 then 0 else v i) 1 S 216, M, fun u post hu H => ?_⟩
    generalize hG : (fun i => if g i = 0 then 0 else v i) = G at H e0 e1
    have hu' := hu
    obtain ⟨f, E, V, R, K, T, a8, a9, rfl, hOb⟩ := hu
    unfold wpX_shell
    refine hr _ (br_f h0 ?_)
    refine pk_loop (σ := Int32 × St1) (fun n i s => wX_shell_15 post p0 p1 n s.1 (nI i) s.2.1 s.2.2.1 s.2.2.2.1 s.2.2.2.2.1 s.2.2.2.2.2.1 s.2.2.2.2.2.2.1 s.2.2.2.2.2.2.2.1 s.2.2.2.2.2.2.2.2.1 s.2.2.2.2.2.2.2.2.2.1 s.2.2.2.2.2.2.2.2.2.2)
      (fun i s => lf_St (lf_fS G 1 S i) M s.2) 216 0 (0, (f, lf_a S, lf_a M, lf_a E, lf_a V, lf_a R, lf_a K, lf_a T, a8, a9)) (by omega) hu' ?_ ?_
    · intro n s h
      exact pk_le 216 216 (fun _ => H _ _ h) (fun z => absurd z (by omega))
    · intro n i s hi h hw
      obtain ⟨x4, u⟩ := s
      have h' := h
      obtain ⟨f, E, V, R, K, T, a8, a9, hu, hOb⟩ := h
      dsimp only at hu
      subst hu
      have hSi := hOb.2.2.2.1 i hi
      refine pk_le 216 i (fun z => absurd z (by omega)) (fun _ => ?_)
      refine hg i _ ?_
      by_cases hgi : g i = 0
      · refine br_t hgi (nm_r (nI_1 i) (hw (x4, _) ?_))
        rw [lf_fS0 (e0 i hgi)]
        exact h'
      · refine br_f hgi (hv i _ ?_)
        have ei := e1 i hgi
        by_cases hvi : v i = 0
        · refine br_t hvi (nm_r (nI_1 i) (hw (x4, _) ?_))
          rw [lf_fS0 (by rw [ei]; exact hvi)]
          exact h'
        · have eG : lf_fS G 1 S (i + 1) = lf_u (lf_fS G 1 S i) i 1 := lf_fS1 (by rw [ei]; exact hvi)
          refine br_f hvi ⟨pk_in i 216 hi, ?_⟩
          refine pk_eq (lf_fS G 1 S i i) 0 (fun e => ?_) (fun e => ?_) (lf_at rfl (by omega)) rfl (by omega) (by omega)
          · refine lf_change h' hi (k := 1) (by omega) (fun u' q => ?_)
            rw [← eG] at q
            have q' := q
            obtain ⟨f', E', V', R', K', T', b8, b9, rfl, _⟩ := q
            exact nm_e (nm_r (nI_1 i) (hw (x4 + 1, _) q'))
          · refine nm_r (nI_1 i) (hw (x4, _) ?_)
            rw [eG, lf_u_same (by omega)]
            exact h'
theorem lf_solidA (p0 p1 : Int32) : lf_A (fun post u => wpX_solid post u p0 p1) := by
  intro S M
  have no : (p0 < 0 ∨ nI 216 ≤ p0) → ∃ S' M' : Nat → Nat, ∀ (u : St1) (post : Int32 → St1 → Prop), lf_St S M u → (∀ r u', lf_St S' M' u' → post r u') → wpX_solid post u p0 p1 := by
    intro hx
    refine ⟨S, M, fun u post hu H => ?_⟩
    have hu' := hu
    obtain ⟨f, E, V, R, K, T, a8, a9, rfl, hOb⟩ := hu
    unfold wpX_solid
    exact lf_notCell hx (br_t rfl (H _ _ hu'))
  rcases pk_ix p0 (show 216 < 2 ^ 31 by omega) with h | h | ⟨c, hc, h⟩
  · exact no (Or.inl h)
  · exact no (Or.inr h)
  · subst h
    by_cases e : p1 = 0
    · exact ⟨lf_u S c 0, M, fun u post hu H => lf_solid hu hc (Or.inl ⟨e, rfl⟩) H⟩
    · exact ⟨lf_u S c 1, M, fun u post hu H => lf_solid hu hc (Or.inr ⟨e, rfl⟩) H⟩
theorem lf_lampA (p0 p1 : Int32) : lf_A (fun post u => wpX_lamp post u p0 p1) := by
  intro S M
  have no : (p0 < 0 ∨ nI 216 ≤ p0) → ∃ S' M' : Nat → Nat, ∀ (u : St1) (post : Int32 → St1 → Prop), lf_St S M u → (∀ r u', lf_St S' M' u' → post r u') → wpX_lamp post u p0 p1 := by
    intro hx
    refine ⟨S, M, fun u post hu H => ?_⟩
    have hu' := hu
    obtain ⟨f, E, V, R, K, T, a8, a9, rfl, hOb⟩ := hu
    unfold wpX_lamp
    exact lf_notCell hx (br_t rfl (H _ _ hu'))
  rcases pk_ix p0 (show 216 < 2 ^ 31 by omega) with h | h | ⟨c, hc, h⟩
  · exact no (Or.inl h)
  · exact no (Or.inr h)
  · subst h
    by_cases e : p1 < 0
    · refine ⟨S, M, fun u post hu H => ?_⟩
      have hu' := hu
      obtain ⟨f, E, V, R, K, T, a8, a9, rfl, hOb⟩ := hu
      unfold wpX_lamp
      exact lf_isCell hc (br_f (by decide) (br_t e (H _ _ hu')))
    · by_cases e2 : p1 ≤ 12
      · obtain ⟨x, hx, ex⟩ := nI_of2 (M := 12) (n := 12) (by decide) e e2
        subst ex
        exact ⟨S, lf_u M c x, fun u post hu H => lf_lamp hu hc hx (fun u' h' => H _ u' h')⟩
      · refine ⟨S, M, fun u post hu H => ?_⟩
        have hu' := hu
        obtain ⟨f, E, V, R, K, T, a8, a9, rfl, hOb⟩ := hu
        unfold wpX_lamp
        exact lf_isCell hc (br_f (by decide) (br_f e (br_f e2 (H _ _ hu'))))
theorem lf_act (p1 p2 p3 p4 : Int32) : lf_A (fun post u => wpL_act post u p1 p2 p3 p4) := by
  intro S M
  obtain ⟨l, hl⟩ := lf_D_low p3
  obtain ⟨h, hh⟩ := lf_D_high p3 p4
  have go : ∀ (W : (Int32 → St1 → Prop) → St1 → Prop), lf_A W → (∀ (u : St1) (post : Int32 → St1 → Prop), lf_St S M u → W post u → wpL_act post u p1 p2 p3 p4) →
      ∃ S' M' : Nat → Nat, ∀ (u : St1) (post : Int32 → St1 → Prop), lf_St S M u → (∀ r u', lf_St S' M' u' → post r u') → wpL_act post u p1 p2 p3 p4 := by
    intro W hA hW
    obtain ⟨S', M', k⟩ := hA S M
    exact ⟨S', M', fun u post hu H => hW u post hu (k u post hu H)⟩
  by_cases h0 : p1 = 0
  · refine go _ (lf_solidA ((p2 &&& 255) - (p2 &&& 255) / 217 * 217) (p3 &&& 1)) (fun u post hu hW => ?_)
    obtain ⟨f, E, V, R, K, T, a8, a9, rfl, hOb⟩ := hu
    unfold wpL_act
    exact hl _ (hh _ (br_t h0 ⟨by decide, hW⟩))
  by_cases h1 : p1 = 1
  · by_cases e : p2 &&& 3 = 3
    · refine go _ (lf_fill l h 0) (fun u post hu hW => ?_)
      obtain ⟨f, E, V, R, K, T, a8, a9, rfl, hOb⟩ := hu
      unfold wpL_act
      exact hl _ (hh _ (br_f h0 (br_t h1 (br_t e hW))))
    · refine go _ (lf_fill l h 1) (fun u post hu hW => ?_)
      obtain ⟨f, E, V, R, K, T, a8, a9, rfl, hOb⟩ := hu
      unfold wpL_act
      exact hl _ (hh _ (br_f h0 (br_t h1 (br_f e hW))))
  by_cases h2 : p1 = 2
  · by_cases e : p2 &&& 7 = 7
    · refine go _ (lf_fill h l 0) (fun u post hu hW => ?_)
      obtain ⟨f, E, V, R, K, T, a8, a9, rfl, hOb⟩ := hu
      unfold wpL_act
      exact hl _ (hh _ (br_f h0 (br_f h1 (br_t h2 (br_t e hW)))))
    · refine go _ (lf_fill l h 0) (fun u post hu hW => ?_)
      obtain ⟨f, E, V, R, K, T, a8, a9, rfl, hOb⟩ := hu
      unfold wpL_act
      exact hl _ (hh _ (br_f h0 (br_f h1 (br_t h2 (br_f e hW)))))
  by_cases h3 : p1 = 3
  · refine go _ (lf_shell l h) (fun u post hu hW => ?_)
    obtain ⟨f, E, V, R, K, T, a8, a9, rfl, hOb⟩ := hu
    unfold wpL_act
    exact hl _ (hh _ (br_f h0 (br_f h1 (br_f h2 (br_t h3 hW)))))
  by_cases h4 : p1 = 4
  · refine go _ (lf_solidA ((p2 &&& 255) - (p2 &&& 255) / 217 * 217) 1) (fun u post hu hW => ?_)
    obtain ⟨f, E, V, R, K, T, a8, a9, rfl, hOb⟩ := hu
    unfold wpL_act
    exact hl _ (hh _ (br_f h0 (br_f h1 (br_f h2 (br_f h3 (br_t h4 ⟨by decide, hW⟩))))))
  · refine go _ (lf_lampA ((p2 &&& 255) - (p2 &&& 255) / 217 * 217) ((p4 &&& 255) - (p4 &&& 255) / 14 * 14)) (fun u post hu hW => ?_)
    obtain ⟨f, E, V, R, K, T, a8, a9, rfl, hOb⟩ := hu
    unfold wpL_act
    exact hl _ (hh _ (br_f h0 (br_f h1 (br_f h2 (br_f h3 (br_f h4 ⟨by decide, by decide, hW⟩))))))
end
section
theorem lf_isSolid {post : Int32 → Prop} {f : Int32} {a2 a3 a4 a5 a6 a7 a8 a9 : Nat → Int32} {S : Nat → Nat} {c : Nat} (hc : c < 216) (hS : ∀ c, c < 216 → S c ≤ 1)
    (h0 : S c = 0 → post 0) (h1 : S c ≠ 0 → post 1) : wpX_isSolid post (f, lf_a S, a2, a3, a4, a5, a6, a7, a8, a9) (nI c) := by
  have hSc := hS c hc
  unfold wpX_isSolid
  exact lf_isCell hc (br_f (by decide) ⟨pk_in c 216 hc, pk_eq (S c) 0 h0 h1 (lf_at rfl (by omega)) rfl (by omega) (by omega)⟩)
theorem lf_lamplight {post : Int32 → Prop} {f : Int32} {a1 a2 a3 a5 a6 a7 a8 a9 : Nat → Int32} {V : Nat → Nat} {c : Nat} (hc : c < 216) (h : post (nI (V c))) :
    wpX_lamplight post (f, a1, a2, a3, lf_a V, a5, a6, a7, a8, a9) (nI c) := by
  unfold wpX_lamplight
  refine lf_isCell hc (br_f (by decide) ⟨pk_in c 432 (by omega), ?_⟩)
  rw [lf_at rfl (by omega)]
  exact h
theorem lf_skylight {post : Int32 → Prop} {f : Int32} {a1 a2 a3 a5 a6 a7 a8 a9 : Nat → Int32} {V : Nat → Nat} {c : Nat} (hc : c < 216) (h : post (nI (V (216 + c)))) :
    wpX_skylight post (f, a1, a2, a3, lf_a V, a5, a6, a7, a8, a9) (nI c) := by
  unfold wpX_skylight
  refine lf_isCell hc (br_f (by decide) ⟨pk_in (216 + c) 432 (by omega) (nI_add 216 c), ?_⟩)
  rw [lf_at (show (216 : Int32) + nI c = nI (216 + c) from nI_add 216 c) (by omega)]
  exact h
/-- the light of a cell -/
def lf_lt (V : Nat → Nat) (c : Nat) : Nat := if V c ≤ V (216 + c) then V (216 + c) else V c
theorem lf_lt_le {V : Nat → Nat} {c : Nat} (hc : c < 216) (hV : ∀ p, p < 432 → V p ≤ 12) : lf_lt V c ≤ 12 := by
  unfold lf_lt
  split
  · exact hV _ (by omega)
  · exact hV _ (by omega)
theorem lf_Llight {post : Int32 → Prop} {f : Int32} {a1 a2 a3 a5 a6 a7 a8 a9 : Nat → Int32} {V : Nat → Nat} {c : Nat} (hc : c < 216) (hV : ∀ p, p < 432 → V p ≤ 12) (h : post (nI (lf_lt V c))) :
    wpL_light post (f, a1, a2, a3, lf_a V, a5, a6, a7, a8, a9) (nI c) := by
  have h1 := hV c (by omega)
  have h2 := hV (216 + c) (by omega)
  unfold wpL_light
  refine lf_lamplight hc (lf_skylight hc ?_)
  unfold lf_lt at h
  refine pk_le (V c) (V (216 + c)) (fun z => ?_) (fun z => ?_) rfl rfl (by omega) (by omega)
  · rw [if_pos z] at h
    exact h
  · rw [if_neg (by omega)] at h
    exact h
theorem lf_Xlight {post : Int32 → Prop} {f : Int32} {a1 a2 a3 a5 a6 a7 a8 a9 : Nat → Int32} {V : Nat → Nat} {c : Nat} (hc : c < 216) (hV : ∀ p, p < 432 → V p ≤ 12) (h : post (nI (lf_lt V c))) :
    wpX_light post (f, a1, a2, a3, lf_a V, a5, a6, a7, a8, a9) (nI c) := by
  have h1 := hV c (by omega)
  have h2 := hV (216 + c) (by omega)
  unfold wpX_light
  refine ⟨pk_in (216 + c) 432 (by omega) (nI_add 216 c), nm_r (lf_at (nI_add 216 c) (by omega)) ⟨pk_in c 432 (by omega), ?_⟩⟩
  unfold lf_lt at h
  refine pk_le (V c) (V (216 + c)) (fun z => ?_) (fun z => ⟨pk_in c 432 (by omega), ?_⟩) (lf_at rfl (by omega)) rfl (by omega) (by omega)
  · rw [if_pos z] at h
    exact h
  · rw [if_neg (by omega)] at h
    rw [lf_at rfl (by omega)]
    exact h
theorem lf_sub1 : ∀ a, a < 14 → ∀ b, b < 14 → a ≤ b + 1 → nI a - 1 ≤ nI b := by decide +kernel
theorem lf_lt_nb {S s V R : Nat → Nat} {c d : Nat} (hQ : lf_Q (lf_o S) s V R) (hR : ∀ p, p < 432 → R p = 0) (hc : c < 216) (hd : d < 216) (hSc : S c = 0) (h1 : lf_adj c d) (h2 : lf_adj (216 + c) (216 + d)) :
    lf_lt V d ≤ lf_lt V c + 1 := by
  have k1 := (lf_adj_s (show c < 432 by omega) h1).2.2
  have k2 := (lf_adj_s (show 216 + c < 432 by omega) h2).2.2
  have o1 : lf_o S c := by
    unfold lf_o
    rw [lf_b0 hc]
    exact hSc
  have o2 : lf_o S (216 + c) := by
    unfold lf_o
    rw [lf_b1 (by omega), show 216 + c - 216 = c by omega]
    exact hSc
  have g1 := hQ.2.2.1 d c (by omega) k1 o1 (hR d (by omega))
  have g2 := hQ.2.2.1 (216 + d) (216 + c) (by omega) k2 o2 (hR _ (by omega))
  unfold lf_lt
  split <;> split <;> omega
theorem lf_smooth {post : Int32 → Prop} {f : Int32} {a2 a3 a5 a6 a7 a8 a9 : Nat → Int32} {S s V R : Nat → Nat} {c : Nat} (hS : ∀ c, c < 216 → S c ≤ 1) (hQ : lf_Q (lf_o S) s V R) (hR : ∀ p, p < 432 → R p = 0)
    (hc : c < 216) (hSc : S c = 0) (h : post 1) : wpL_smooth post (f, lf_a S, a2, a3, lf_a V, a5, a6, a7, a8, a9) (nI c) := by
  have hV := hQ.1
  unfold wpL_smooth
  refine lf_Llight hc hV ?_
  refine pk_loop (σ := Unit) (fun n i _ => wL_smooth_8 post (nI c) (nI (lf_lt V c)) f (lf_a S) a2 a3 (lf_a V) a5 a6 a7 a8 a9 n (nI i)) (fun _ _ => True) 6 0 () (by omega) trivial ?_ ?_
  · intro n _ _
    exact pk_le 6 6 (fun _ => h) (fun z => absurd z (by omega))
  · intro n i _ hi _ hw
    refine pk_le 6 i (fun z => absurd z (by omega)) (fun _ => ?_)
    refine lf_besideN hc hi (br_t (by decide) (nm_r (nI_1 i) (hw () trivial))) (fun d hd q1 q2 => ?_)
    refine br_f (nI_pos (by omega)) ?_
    have hlt := lf_lt_nb hQ hR hc hd hSc q1 q2
    have l1 := lf_lt_le hc hV
    have l2 := lf_lt_le hd hV
    refine lf_isSolid hd hS (fun _ => lf_Llight hd hV ?_) (fun _ => lf_Llight hd hV ?_)
    · exact br_t rfl (br_t (lf_sub1 _ (by omega) _ (by omega) hlt) (nm_r (nI_1 i) (hw () trivial)))
    · exact br_f (by decide) (nm_r (nI_1 i) (hw () trivial))
/-- how many of the first n cells are so -/
def lf_num (P : Nat → Bool) : Nat → Nat
  | 0 => 0
  | n + 1 => lf_num P n + (if P n = true then 1 else 0)
theorem lf_num_le (P : Nat → Bool) (n : Nat) : lf_num P n ≤ n := by
  induction n with
  | zero => exact Nat.le_refl 0
  | succ n ih =>
    unfold lf_num
    split <;> omega
theorem lf_num_1 {P : Nat → Bool} {n : Nat} (h : P n = true) : lf_num P (n + 1) = lf_num P n + 1 := by
  show lf_num P n + (if P n = true then 1 else 0) = _
  rw [if_pos h]
theorem lf_num_0 {P : Nat → Bool} {n : Nat} (h : ¬ P n = true) : lf_num P (n + 1) = lf_num P n + 0 := by
  show lf_num P n + (if P n = true then 1 else 0) = _
  rw [if_neg h]
theorem lf_num_all {P : Nat → Bool} : ∀ n, (∀ c, c < n → P c = true) → lf_num P n = n := by
  intro n
  induction n with
  | zero => intro _; rfl
  | succ n ih =>
    intro h
    rw [lf_num_1 (h n (by omega)), ih (fun c hc => h c (by omega))]
theorem lf_num_full {P : Nat → Bool} : ∀ n, lf_num P n = n → ∀ c, c < n → P c = true := by
  intro n
  induction n with
  | zero => intro _ c hc; omega
  | succ n ih =>
    intro h c hc
    have hl := lf_num_le P n
    by_cases e : P n = true
    · rw [lf_num_1 e] at h
      by_cases e2 : c = n
      · rw [e2]
        exact e
      · exact ih (by omega) c (by omega)
    · rw [lf_num_0 e] at h
      omega
theorem lf_num_eq {P P' : Nat → Bool} : ∀ n, (∀ c, c < n → P c = P' c) → lf_num P n = lf_num P' n := by
  intro n
  induction n with
  | zero => intro _; rfl
  | succ n ih =>
    intro h
    show lf_num P n + _ = lf_num P' n + _
    rw [ih (fun c hc => h c (by omega)), h n (by omega)]
/-- free, free and of light k, free and of light below k -/
def lf_fr (S : Nat → Nat) (c : Nat) : Bool := decide (S c = 0)
def lf_dk (S V : Nat → Nat) (k c : Nat) : Bool := decide (S c = 0 ∧ lf_lt V c = k)
def lf_bk (S V : Nat → Nat) (k c : Nat) : Bool := decide (S c = 0 ∧ lf_lt V c < k)
theorem lf_bk_add (S V : Nat → Nat) (k : Nat) : ∀ n, lf_num (lf_bk S V k) n + lf_num (lf_dk S V k) n = lf_num (lf_bk S V (k + 1)) n := by
  intro n
  induction n with
  | zero => rfl
  | succ n ih =>
    unfold lf_num lf_bk lf_dk
    unfold lf_bk lf_dk at ih
    simp only [decide_eq_true_eq]
    split <;> split <;> split <;> omega
theorem lf_bk_0 (S V : Nat → Nat) : ∀ n, lf_num (lf_bk S V 0) n = 0 := by
  intro n
  induction n with
  | zero => rfl
  | succ n ih =>
    rw [lf_num_0, ih]
    unfold lf_bk
    simp
theorem lf_bk_13 {S V : Nat → Nat} (hV : ∀ p, p < 432 → V p ≤ 12) : lf_num (lf_bk S V 13) 216 = lf_num (lf_fr S) 216 := by
  refine lf_num_eq 216 (fun c hc => ?_)
  have := lf_lt_le hc hV
  unfold lf_bk lf_fr
  rw [decide_eq_decide]
  constructor
  · intro h
    exact h.1
  · intro h
    exact ⟨h, by omega⟩
theorem lf_dim {post : Int32 → Prop} {f : Int32} {a2 a3 a5 a6 a7 a8 a9 : Nat → Int32} {S V : Nat → Nat} {k : Nat} (hS : ∀ c, c < 216 → S c ≤ 1) (hV : ∀ p, p < 432 → V p ≤ 12) (hk : k ≤ 12)
    (h : post (nI (lf_num (lf_dk S V k) 216))) : wpX_dim post (f, lf_a S, a2, a3, lf_a V, a5, a6, a7, a8, a9) (nI k) := by
  unfold wpX_dim
  refine br_f (nI_pos (by omega)) (pk_le k 12 (fun _ => ?_) (fun z => absurd z (by omega)))
  refine pk_loop (σ := Unit) (fun n i _ => wX_dim_16 post (nI k) f (lf_a S) a2 a3 (lf_a V) a5 a6 a7 a8 a9 n (nI (lf_num (lf_dk S V k) i)) (nI i)) (fun _ _ => True) 216 0 () (by omega) trivial ?_ ?_
  · intro n _ _
    exact pk_le 216 216 (fun _ => h) (fun z => absurd z (by omega))
  · intro n i _ hi _ hw
    have hSi := hS i hi
    have hli := lf_lt_le hi hV
    have hw' := hw () trivial
    refine pk_le 216 i (fun z => absurd z (by omega)) (fun _ => ⟨pk_in i 216 hi, ?_⟩)
    refine pk_eq (S i) 0 (fun z => ?_) (fun z => ?_) (lf_at rfl (by omega)) rfl (by omega) (by omega)
    · refine lf_Xlight hi hV ?_
      refine pk_eq (lf_lt V i) k (fun g => ?_) (fun g => ?_)
      · rw [lf_num_1 (show lf_dk S V k i = true from decide_eq_true ⟨z, g⟩)] at hw'
        exact nm_r (nI_1 _) (nm_r (nI_1 i) hw')
      · rw [lf_num_0 (show ¬ lf_dk S V k i = true from fun y => g (of_decide_eq_true y).2)] at hw'
        exact nm_r (nI_add _ 0) (nm_r (nI_1 i) hw')
    · rw [lf_num_0 (show ¬ lf_dk S V k i = true from fun y => z (of_decide_eq_true y).1)] at hw'
      exact nm_r (nI_add _ 0) (nm_r (nI_1 i) hw')
theorem lf_open {post : Int32 → Prop} {f : Int32} {a1 a2 a4 a5 a6 a7 a8 a9 : Nat → Int32} {E : Nat → Nat} (hE : ∀ c, c < 216 → E c ≤ 1)
    (h : post (nI (lf_num (fun c => decide (E c ≠ 0)) 216))) : wpX_open post (f, a1, a2, lf_a E, a4, a5, a6, a7, a8, a9) := by
  unfold wpX_open
  refine pk_loop (σ := Unit) (fun n i _ => wX_open_4 post f a1 a2 (lf_a E) a4 a5 a6 a7 a8 a9 n (nI (lf_num (fun c => decide (E c ≠ 0)) i)) (nI i)) (fun _ _ => True) 216 0 () (by omega) trivial ?_ ?_
  · intro n _ _
    exact pk_le 216 216 (fun _ => h) (fun z => absurd z (by omega))
  · intro n i _ hi _ hw
    have hEi := hE i hi
    have hw' := hw () trivial
    refine pk_le 216 i (fun z => absurd z (by omega)) (fun _ => ⟨pk_in i 216 hi, ?_⟩)
    refine pk_eq (E i) 0 (fun z => ?_) (fun z => ?_) (lf_at rfl (by omega)) rfl (by omega) (by omega)
    · rw [lf_num_0 (show ¬ (fun c => decide (E c ≠ 0)) i = true from fun y => of_decide_eq_true y z)] at hw'
      exact nm_r (nI_add _ 0) (nm_r (nI_1 i) hw')
    · rw [lf_num_1 (show (fun c => decide (E c ≠ 0)) i = true from decide_eq_true z)] at hw'
      exact nm_r (nI_1 _) (nm_r (nI_1 i) hw')
theorem lf_sky_same {S E E' : Nat → Nat} (h : ∀ x, x < 216 → lf_sk S E x) (h' : ∀ x, x < 216 → lf_sk S E' x) : ∀ n x, x < 216 → 216 - x < n → E x = E' x := by
  intro n
  induction n with
  | zero => intro x _ k; omega
  | succ n ih =>
    intro x hx k
    have g := h x hx
    have g' := h' x hx
    unfold lf_sk at g g'
    rw [g, g']
    by_cases e : 216 ≤ x + 36
    · have k1 : (216 ≤ x + 36 ∨ E (x + 36) ≠ 0) ↔ (216 ≤ x + 36 ∨ E' (x + 36) ≠ 0) := ⟨fun _ => Or.inl e, fun _ => Or.inl e⟩
      simp only [k1]
    · rw [ih (x + 36) (by omega) (by omega)]
theorem lf_sky_open {S E : Nat → Nat} (h : ∀ x, x < 216 → lf_sk S E x) (hS : ∀ x, x < 216 → S x = 0) : ∀ n x, x < 216 → 216 - x < n → E x = 1 := by
  intro n
  induction n with
  | zero => intro x _ k; omega
  | succ n ih =>
    intro x hx k
    have g := h x hx
    unfold lf_sk at g
    rw [g]
    by_cases e : 216 ≤ x + 36
    · rw [if_pos ⟨hS x hx, Or.inl e⟩]
    · have := ih (x + 36) (by omega) (by omega)
      rw [if_pos ⟨hS x hx, Or.inr (by omega)⟩]
theorem lf_Ob_same {S M E V R E' V' R' : Nat → Nat} (h : lf_Ob S M E V R) (h' : lf_Ob S M E' V' R') {p : Nat} (hp : p < 432) : V p = V' p := by
  obtain ⟨h1, h2, h3, _⟩ := h
  obtain ⟨g1, g2, g3, _⟩ := h'
  refine lf_same h1 g1 (fun q hq => ?_) h2 g2 hp
  unfold lf_src
  split
  · rfl
  · rw [lf_sky_same h3 g3 _ (q - 216) (by omega) (Nat.lt_succ_self _)]
theorem lf_alike {post : Int32 → Prop} {f g : Int32} {a1 a2 a3 a5 a6 a7 a8 a9 b1 b2 b3 b5 b6 b7 b8 b9 : Nat → Int32} {V V' : Nat → Nat} (hV : ∀ p, p < 432 → V p = V' p) (h : post 1) :
    wpL_alike post (f, a1, a2, a3, lf_a V, a5, a6, a7, a8, a9, g, b1, b2, b3, lf_a V', b5, b6, b7, b8, b9) := by
  unfold wpL_alike
  refine pk_loop (σ := Unit) (fun n i _ => wL_alike_2 post f a1 a2 a3 (lf_a V) a5 a6 a7 a8 a9 g b1 b2 b3 (lf_a V') b5 b6 b7 b8 b9 n (nI i)) (fun _ _ => True) 216 0 () (by omega) trivial ?_ ?_
  · intro n _ _
    exact pk_le 216 216 (fun _ => h) (fun z => absurd z (by omega))
  · intro n i _ hi _ hw
    refine pk_le 216 i (fun z => absurd z (by omega)) (fun _ => ?_)
    refine lf_lamplight hi (lf_lamplight hi (lf_skylight hi (lf_skylight hi ?_)))
    exact br_t (by rw [hV i (by omega)]) (br_t (by rw [hV (216 + i) (by omega)]) (nm_r (nI_1 i) (hw () trivial)))
/-- the levels of a new object -/
def lf_v0 (p : Nat) : Nat := if 216 ≤ p ∧ p < 216 + 216 then 8 else 0
def lf_e0 (x : Nat) : Nat := if x < 216 then 1 else 0
theorem lf_v0_a {p : Nat} (h : p < 216) : lf_v0 p = 0 := if_neg (by omega)
theorem lf_v0_b {p : Nat} (h : 216 ≤ p) (h2 : p < 432) : lf_v0 p = 8 := if_pos (by omega)
theorem lf_e0_a {x : Nat} (h : x < 216) : lf_e0 x = 1 := if_pos h
theorem lf_src0 {p : Nat} (hp : p < 432) : lf_src (fun _ => 0) lf_e0 p = lf_v0 p := by
  unfold lf_src
  by_cases e : p < 216
  · rw [if_pos e, lf_v0_a e]
  · rw [if_neg e, lf_v0_b (by omega) hp, lf_e0_a (by omega)]
    rfl
theorem lf_Ob_0 : lf_Ob (fun _ => 0) (fun _ => 0) lf_e0 lf_v0 (fun _ => 0) := by
  refine ⟨⟨fun p a => ?_, fun p a _ => ?_, fun p q a b _ _ => ?_, fun p a => ?_, fun p _ => Nat.zero_le 1⟩, fun p _ => rfl, fun x hx => ?_, fun c _ => Nat.zero_le 1, fun c _ => Nat.zero_le 12⟩
  · unfold lf_v0
    split <;> omega
  · rw [lf_src0 a]
    exact Nat.le_refl _
  · obtain ⟨k1, k2, _⟩ := lf_adj_s a b
    rcases lf_b_or p with ⟨t1, t2⟩ | ⟨t1, t2⟩
    · rw [lf_v0_a t1]
      omega
    · rcases lf_b_or q with ⟨y1, y2⟩ | ⟨y1, y2⟩
      · omega
      · rw [lf_v0_b t1 a, lf_v0_b y1 k1]
        omega
  · left
    rw [lf_src0 a]
    exact Nat.le_refl _
  · unfold lf_sk
    rw [lf_e0_a hx, if_pos]
    refine ⟨rfl, ?_⟩
    by_cases e : 216 ≤ x + 36
    · exact Or.inl e
    · right
      rw [lf_e0_a (by omega)]
      omega
theorem lf_init {post : St1 → Prop} {mc ms : Nat} {f : Int32} (h1 : 9 ≤ mc) (h2 : 2808 ≤ ms) (H : ∀ u, lf_St (fun _ => 0) (fun _ => 0) u → post u) : wpX_init post mc ms f := by
  have main := pk_loop (σ := Unit) (fun n i _ => wX_init_87 post mc ms 9 2808 f n (nI i) (lf_a (fun _ => 0)) (lf_a (fun _ => 0)) (lf_a (fun j => if j < i then 1 else 0)) (lf_a (fun j => if 216 ≤ j ∧ j < 216 + i then 8 else 0)) (lf_a (fun _ => 0)) (lf_a (fun _ => 0)) (lf_a (fun _ => 0)) (fun _ => 0) (fun _ => 0))
    (fun _ _ => True) 216 0 () (by omega) trivial ?_ ?_
  · unfold wpX_init
    refine ⟨by omega, by omega, by omega, by omega, by omega, by omega, by omega, by omega, by omega, by omega, by omega, by omega, by omega, by omega, by omega, by omega, by omega, by omega, ?_⟩
    obtain ⟨n, hn⟩ := main
    have e1 : (lf_a (fun j => if j < 0 then 1 else 0)) = (fun _ => 0) := by
      funext j
      show nI (if j < 0 then 1 else 0) = 0
      rw [if_neg (by omega)]
      rfl
    have e2 : (lf_a (fun j => if 216 ≤ j ∧ j < 216 + 0 then 8 else 0)) = (fun _ => 0) := by
      funext j
      show nI (if 216 ≤ j ∧ j < 216 + 0 then 8 else 0) = 0
      rw [if_neg (by omega)]
      rfl
    rw [e1, e2] at hn
    exact ⟨n, hn⟩
  · intro n _ _
    exact pk_le 216 216 (fun _ => H _ ⟨f, lf_e0, lf_v0, fun _ => 0, fun _ => 0, fun _ => 0, fun _ => 0, fun _ => 0, rfl, lf_Ob_0⟩) (fun z => absurd z (by omega))
  · intro n i _ hi _ hw
    have e1 : lf_u (fun j => if j < i then 1 else 0) i 1 = (fun j => if j < i + 1 then 1 else 0) := by
      funext j
      by_cases e : j = i
      · rw [e, lf_us, if_pos (by omega)]
      · rw [lf_un e]
        by_cases e2 : j < i
        · rw [if_pos e2, if_pos (by omega)]
        · rw [if_neg e2, if_neg (by omega)]
    have e2 : lf_u (fun j => if 216 ≤ j ∧ j < 216 + i then 8 else 0) (216 + i) 8 = (fun j => if 216 ≤ j ∧ j < 216 + (i + 1) then 8 else 0) := by
      funext j
      by_cases e : j = 216 + i
      · rw [e, lf_us, if_pos (by omega)]
      · rw [lf_un e]
        by_cases e2 : 216 ≤ j ∧ j < 216 + i
        · rw [if_pos e2, if_pos (by omega)]
        · rw [if_neg e2, if_neg (by omega)]
    refine pk_le 216 i (fun z => absurd z (by omega)) (fun _ => ⟨pk_in i 216 hi, nm_r (e' := lf_a (fun j => if j < i + 1 then 1 else 0)) ?_ ⟨pk_in (216 + i) 432 (by omega) (nI_add 216 i), nm_r (e' := lf_a (fun j => if 216 ≤ j ∧ j < 216 + (i + 1) then 8 else 0)) ?_ (nm_r (nI_1 i) (hw () trivial))⟩⟩)
    · rw [← e1]
      exact lf_updN (x := 1) rfl (by omega) rfl
    · rw [← e2]
      exact lf_updN (x := 8) (nI_add 216 i) (by omega) rfl
end
section
theorem lf_law269 {post : Int32 → Prop} {L : Nat} {xs : Nat → Int32} {J18 : Int32 → Int32 → (Nat → Int32) → (Nat → Int32) → (Nat → Int32) → (Nat → Int32) → (Nat → Int32) → (Nat → Int32) → (Nat → Int32) → (Nat → Int32) → (Nat → Int32) → Int32 → (Nat → Int32) → (Nat → Int32) → (Nat → Int32) → (Nat → Int32) → (Nat → Int32) → (Nat → Int32) → (Nat → Int32) → (Nat → Int32) → (Nat → Int32) → Prop}
    {t kc ks : Nat} {f g : Int32} {a8 a9 b8 b9 : Nat → Int32} {S M E V R K T E2 V2 R2 K2 T2 : Nat → Nat} (h1 : lf_Ob S M E V R) (h2 : lf_Ob S M E2 V2 R2)
    (H : J18 (nI (t + 4)) f (lf_a S) (lf_a M) (lf_a E) (lf_a V) (lf_a R) (lf_a K) (lf_a T) a8 a9 g (lf_a S) (lf_a M) (lf_a E2) (lf_a V2) (lf_a R2) (lf_a K2) (lf_a T2) b8 b9) :
    wL_law_269 post L xs J18 (nI t) kc ks f (lf_a S) (lf_a M) (lf_a E) (lf_a V) (lf_a R) (lf_a K) (lf_a T) a8 a9 g (lf_a S) (lf_a M) (lf_a E2) (lf_a V2) (lf_a R2) (lf_a K2) (lf_a T2) b8 b9 := by
  unfold wL_law_269
  exact lf_alike (fun p hp => lf_Ob_same h1 h2 hp) (br_f (by decide) (nm_r (nI_add t 4) H))
theorem lf_e216 (x : Int32) : ∃ e : Nat, e < 216 ∧ (x &&& 255) - (x &&& 255) / 216 * 216 = nI e := by
  obtain ⟨j, hj, e⟩ := pk_andE x (m := 255) 8 (by decide)
  refine ⟨j % 216, Nat.mod_lt _ (by omega), ?_⟩
  rw [e]
  exact pk_rem (d := 216) (by omega) (by omega) (by omega)
theorem lf_law190 {post : Int32 → Prop} {L : Nat} {xs : Nat → Int32} {J18 : Int32 → Int32 → (Nat → Int32) → (Nat → Int32) → (Nat → Int32) → (Nat → Int32) → (Nat → Int32) → (Nat → Int32) → (Nat → Int32) → (Nat → Int32) → (Nat → Int32) → Int32 → (Nat → Int32) → (Nat → Int32) → (Nat → Int32) → (Nat → Int32) → (Nat → Int32) → (Nat → Int32) → (Nat → Int32) → (Nat → Int32) → (Nat → Int32) → Prop}
    {t kc ks : Nat} {f g : Int32} {a8 a9 b8 b9 : Nat → Int32} {S M E V R K T E2 V2 R2 K2 T2 : Nat → Nat} (hL : L ≤ 260) (ht : t + 3 < L) (h1 : lf_Ob S M E V R) (h2 : lf_Ob S M E2 V2 R2)
    (H : ∀ f' E' V' R' K' T' a8' a9', lf_Ob S M E' V' R' → J18 (nI (t + 4)) f' (lf_a S) (lf_a M) (lf_a E') (lf_a V') (lf_a R') (lf_a K') (lf_a T') a8' a9' g (lf_a S) (lf_a M) (lf_a E2) (lf_a V2) (lf_a R2) (lf_a K2) (lf_a T2) b8 b9) :
    wL_law_190 post L xs J18 (nI t) kc ks f (lf_a S) (lf_a M) (lf_a E) (lf_a V) (lf_a R) (lf_a K) (lf_a T) a8 a9 g (lf_a S) (lf_a M) (lf_a E2) (lf_a V2) (lf_a R2) (lf_a K2) (lf_a T2) b8 b9 := by
  unfold wL_law_190
  obtain ⟨e, he, ee⟩ := lf_e216 (xs (nI t + 3).toNatClampNeg)
  refine ⟨pk_in (t + 3) L ht (nI_add t 3), by decide, nm_r ee ?_⟩
  have hSt : lf_St S M (f, lf_a S, lf_a M, lf_a E, lf_a V, lf_a R, lf_a K, lf_a T, a8, a9) := ⟨f, E, V, R, K, T, a8, a9, rfl, h1⟩
  have hM := h1.2.2.2.2
  have hS := h1.2.2.2.1
  have hMe := hM e he
  have hVe := h1.1.1 e (by omega)
  have hglow : M e ≤ V e := by
    have k := h1.1.2.1 e (by omega) (h1.2.1 e (by omega))
    unfold lf_src at k
    rw [if_pos he] at k
    exact k
  refine lf_lamplight he ?_
  refine lf_lamp (x := 0) hSt he (by omega) (fun u1 q1 => ?_)
  have q1' := q1
  obtain ⟨f1, E1, V1, R1, K1, T1, c8, c9, rfl, _⟩ := q1
  refine lf_lamp q1' he hMe (fun u3 q3 => ?_)
  rw [lf_u_back rfl] at q3
  have q3' := q3
  obtain ⟨f3, E3, V3, R3, K3, T3, d8, d9, rfl, k3⟩ := q3
  refine pk_le (M e) (V e) (fun _ => ?_) (fun z => absurd z (by omega)) rfl rfl (by omega) (by omega)
  refine lf_isSolid he hS (fun z => br_t rfl ?_) (fun z => br_f (by decide) ?_)
  · refine lf_solid q3' he (Or.inr ⟨by decide, rfl⟩) (fun r u4 q4 => ?_)
    have q4' := q4
    obtain ⟨f4, E4, V4, R4, K4, T4, e8, e9, rfl, _⟩ := q4
    refine lf_solid q4' he (Or.inl ⟨rfl, rfl⟩) (fun r u5 q5 => ?_)
    rw [lf_u_back z] at q5
    obtain ⟨f5, E5, V5, R5, K5, T5, g8, g9, rfl, k5⟩ := q5
    exact lf_law269 k5 h2 (H _ _ _ _ _ _ _ _ k5)
  · exact lf_law269 k3 h2 (H _ _ _ _ _ _ _ _ k3)
theorem lf_law131 {post : Int32 → Prop} {L : Nat} {xs : Nat → Int32} {J18 : Int32 → Int32 → (Nat → Int32) → (Nat → Int32) → (Nat → Int32) → (Nat → Int32) → (Nat → Int32) → (Nat → Int32) → (Nat → Int32) → (Nat → Int32) → (Nat → Int32) → Int32 → (Nat → Int32) → (Nat → Int32) → (Nat → Int32) → (Nat → Int32) → (Nat → Int32) → (Nat → Int32) → (Nat → Int32) → (Nat → Int32) → (Nat → Int32) → Prop}
    {t kc ks : Nat} {f g : Int32} {a8 a9 b8 b9 : Nat → Int32} {S M E V R K T E2 V2 R2 K2 T2 : Nat → Nat} (hL : L ≤ 260) (ht : t + 3 < L) (h1 : lf_Ob S M E V R) (h2 : lf_Ob S M E2 V2 R2)
    (H : ∀ f' E' V' R' K' T' a8' a9', lf_Ob S M E' V' R' → J18 (nI (t + 4)) f' (lf_a S) (lf_a M) (lf_a E') (lf_a V') (lf_a R') (lf_a K') (lf_a T') a8' a9' g (lf_a S) (lf_a M) (lf_a E2) (lf_a V2) (lf_a R2) (lf_a K2) (lf_a T2) b8 b9) :
    ∃ n, wL_law_131 post L xs J18 (nI t) (nI (lf_num (lf_fr S) 216)) kc ks f (lf_a S) (lf_a M) (lf_a E) (lf_a V) (lf_a R) (lf_a K) (lf_a T) a8 a9 g (lf_a S) (lf_a M) (lf_a E2) (lf_a V2) (lf_a R2) (lf_a K2) (lf_a T2) b8 b9 n 0 0 := by
  have hV := h1.1.1
  have hS := h1.2.2.2.1
  have hE := h1.2.2.1
  have hfl := lf_num_le (lf_fr S) 216
  have e0 : nI (lf_num (lf_bk S V 0) 216) = 0 := by
    rw [lf_bk_0]
    rfl
  have main := pk_loop (σ := Unit) (fun n i _ => wL_law_131 post L xs J18 (nI t) (nI (lf_num (lf_fr S) 216)) kc ks f (lf_a S) (lf_a M) (lf_a E) (lf_a V) (lf_a R) (lf_a K) (lf_a T) a8 a9 g (lf_a S) (lf_a M) (lf_a E2) (lf_a V2) (lf_a R2) (lf_a K2) (lf_a T2) b8 b9 n (nI (lf_num (lf_bk S V i) 216)) (nI i))
    (fun _ _ => True) 13 0 () (by omega) trivial ?_ ?_
  · obtain ⟨n, hn⟩ := main
    rw [e0] at hn
    exact ⟨n, hn⟩
  · intro n _ _
    refine pk_lt 12 13 (fun _ => ?_) (fun z => absurd z (by omega))
    refine lf_open (fun c hc => lf_sk_le (hE c hc)) ?_
    rw [lf_bk_13 hV]
    refine br_t rfl ?_
    have fin : wL_law_190 post L xs J18 (nI t) kc ks f (lf_a S) (lf_a M) (lf_a E) (lf_a V) (lf_a R) (lf_a K) (lf_a T) a8 a9 g (lf_a S) (lf_a M) (lf_a E2) (lf_a V2) (lf_a R2) (lf_a K2) (lf_a T2) b8 b9 :=
      lf_law190 hL ht h1 h2 H
    refine pk_eq (lf_num (lf_fr S) 216) 216 (fun z => br_t ?_ fin) (fun _ => fin)
    have hz : ∀ c, c < 216 → S c = 0 := fun c hc => of_decide_eq_true (lf_num_full 216 z c hc)
    rw [lf_num_all 216 (fun c hc => decide_eq_true (by rw [lf_sky_open hE hz _ c hc (Nat.lt_succ_self _)]; omega))]
    rfl
  · intro n i _ hi _ hw
    have hw' := hw () trivial
    refine pk_lt 12 i (fun z => absurd z (by omega)) (fun _ => ?_)
    refine lf_dim hS hV (by omega) (nm_r ?_ (nm_r (nI_1 i) hw'))
    rw [nI_add, lf_bk_add]
theorem lf_law84 {post : Int32 → Prop} {L : Nat} {xs : Nat → Int32} {J18 : Int32 → Int32 → (Nat → Int32) → (Nat → Int32) → (Nat → Int32) → (Nat → Int32) → (Nat → Int32) → (Nat → Int32) → (Nat → Int32) → (Nat → Int32) → (Nat → Int32) → Int32 → (Nat → Int32) → (Nat → Int32) → (Nat → Int32) → (Nat → Int32) → (Nat → Int32) → (Nat → Int32) → (Nat → Int32) → (Nat → Int32) → (Nat → Int32) → Prop}
    {t kc ks : Nat} {f g : Int32} {a8 a9 b8 b9 : Nat → Int32} {S M E V R K T E2 V2 R2 K2 T2 : Nat → Nat} (hL : L ≤ 260) (ht : t + 3 < L) (h1 : lf_Ob S M E V R) (h2 : lf_Ob S M E2 V2 R2)
    (H : ∀ f' E' V' R' K' T' a8' a9', lf_Ob S M E' V' R' → J18 (nI (t + 4)) f' (lf_a S) (lf_a M) (lf_a E') (lf_a V') (lf_a R') (lf_a K') (lf_a T') a8' a9' g (lf_a S) (lf_a M) (lf_a E2) (lf_a V2) (lf_a R2) (lf_a K2) (lf_a T2) b8 b9) :
    ∃ n, wL_law_84 post L xs J18 (nI t) kc ks f (lf_a S) (lf_a M) (lf_a E) (lf_a V) (lf_a R) (lf_a K) (lf_a T) a8 a9 g (lf_a S) (lf_a M) (lf_a E2) (lf_a V2) (lf_a R2) (lf_a K2) (lf_a T2) b8 b9 n 0 0 := by
  have hS := h1.2.2.2.1
  refine pk_loop (σ := Unit) (fun n i _ => wL_law_84 post L xs J18 (nI t) kc ks f (lf_a S) (lf_a M) (lf_a E) (lf_a V) (lf_a R) (lf_a K) (lf_a T) a8 a9 g (lf_a S) (lf_a M) (lf_a E2) (lf_a V2) (lf_a R2) (lf_a K2) (lf_a T2) b8 b9 n (nI (lf_num (lf_fr S) i)) (nI i))
    (fun _ _ => True) 216 0 () (by omega) trivial ?_ ?_
  · intro n _ _
    exact pk_le 216 216 (fun _ => lf_law131 hL ht h1 h2 H) (fun z => absurd z (by omega))
  · intro n i _ hi _ hw
    have hw' := hw () trivial
    refine pk_le 216 i (fun z => absurd z (by omega)) (fun _ => ?_)
    refine lf_isSolid hi hS (fun z => br_t rfl ?_) (fun z => br_f (by decide) ?_)
    · rw [lf_num_1 (show lf_fr S i = true from decide_eq_true z)] at hw'
      exact nm_r (nI_1 _) (lf_smooth hS h1.1 h1.2.1 hi z (br_f (by decide) (nm_r (nI_1 i) hw')))
    · rw [lf_num_0 (show ¬ lf_fr S i = true from fun y => z (of_decide_eq_true y))] at hw'
      exact nm_r (nI_1 i) hw'
theorem i_vc (xs : Nat → Int32) (L : Nat) (hL : L ≤ 260) : wpL_law (fun r => r = 1) L xs := by
  unfold wpL_law
  refine ⟨9, 2808, by omega, by omega, lf_init (by omega) (by omega) (fun u1 q1 => ?_)⟩
  obtain ⟨f1, E1, V1, R1, K1, T1, c8, c9, rfl, k1⟩ := q1
  refine ⟨by omega, by omega, 9, 2808, by omega, by omega, lf_init (by omega) (by omega) (fun u2 q2 => ?_)⟩
  obtain ⟨f2, E2, V2, R2, K2, T2, d8, d9, rfl, k2⟩ := q2
  refine loop_m (σ := Nat × St1 × St1)
    (fun n s => wL_law_18 (fun r => r = 1) L xs (1 + 9 + 1 + 9) (10 + 2808 + 10 + 2808) n (nI s.1)
      s.2.1.1 s.2.1.2.1 s.2.1.2.2.1 s.2.1.2.2.2.1 s.2.1.2.2.2.2.1 s.2.1.2.2.2.2.2.1 s.2.1.2.2.2.2.2.2.1 s.2.1.2.2.2.2.2.2.2.1 s.2.1.2.2.2.2.2.2.2.2.1 s.2.1.2.2.2.2.2.2.2.2.2
      s.2.2.1 s.2.2.2.1 s.2.2.2.2.1 s.2.2.2.2.2.1 s.2.2.2.2.2.2.1 s.2.2.2.2.2.2.2.1 s.2.2.2.2.2.2.2.2.1 s.2.2.2.2.2.2.2.2.2.1 s.2.2.2.2.2.2.2.2.2.2.1 s.2.2.2.2.2.2.2.2.2.2.2)
    (fun s => s.1 ≤ L + 3 ∧ ∃ S M, lf_St S M s.2.1 ∧ lf_St S M s.2.2) (fun s => L + 4 - s.1) ?_
    (0, (f1, lf_a (fun _ => 0), lf_a (fun _ => 0), lf_a E1, lf_a V1, lf_a R1, lf_a K1, lf_a T1, c8, c9), (f2, lf_a (fun _ => 0), lf_a (fun _ => 0), lf_a E2, lf_a V2, lf_a R2, lf_a K2, lf_a T2, d8, d9))
    ⟨by omega, fun _ => 0, fun _ => 0, ⟨f1, E1, V1, R1, K1, T1, c8, c9, rfl, k1⟩, ⟨f2, E2, V2, R2, K2, T2, d8, d9, rfl, k2⟩⟩
  intro n s ⟨hs, S, M, q1, q2⟩ hw
  obtain ⟨t, u1, u2⟩ := s
  dsimp only at hs q1 q2
  refine pk_le L (t + 3) (fun _ => rfl) (fun ht => ?_) rfl (nI_add t 3) (by omega) (by omega)
  refine ⟨pk_in t L (by omega), nm_e ⟨pk_in (t + 1) L (by omega) (nI_add t 1), pk_in (t + 2) L (by omega) (nI_add t 2), pk_in (t + 3) L (by omega) (nI_add t 3), ?_⟩⟩
  obtain ⟨S', M', hA⟩ := lf_act (xs (nI t).toNatClampNeg &&& 7) (xs (nI t + 1).toNatClampNeg) (xs (nI t + 2).toNatClampNeg) (xs (nI t + 3).toNatClampNeg) S M
  refine hA u1 _ q1 (fun r1 w1 p1 => ?_)
  obtain ⟨f3, E3, V3, R3, K3, T3, e8, e9, rfl, k3⟩ := p1
  refine ⟨pk_in (t + 1) L (by omega) (nI_add t 1), pk_in (t + 2) L (by omega) (nI_add t 2), pk_in (t + 3) L (by omega) (nI_add t 3), ?_⟩
  refine hA u2 _ q2 (fun r2 w2 p2 => ?_)
  obtain ⟨f4, E4, V4, R4, K4, T4, g8, g9, rfl, k4⟩ := p2
  refine lf_law84 hL ht k3 k4 (fun f' E' V' R' K' T' a8' a9' k' => ?_)
  refine hw (t + 4, (f', lf_a S', lf_a M', lf_a E', lf_a V', lf_a R', lf_a K', lf_a T', a8', a9'), (f4, lf_a S', lf_a M', lf_a E4, lf_a V4, lf_a R4, lf_a K4, lf_a T4, g8, g9)) ⟨?_, S', M', ⟨f', E', V', R', K', T', a8', a9', rfl, k'⟩, ⟨f4, E4, V4, R4, K4, T4, g8, g9, rfl, k4⟩⟩ ?_
  · dsimp only
    omega
  · dsimp only
    omega
end
