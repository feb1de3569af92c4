section
/-- two functions put together: F from o on for n places, else H -/
def rx_pw {α : Type} (o n : Nat) (F H : Nat → α) : Nat → α := fun k => if o ≤ k ∧ k < o + n then F (k - o) else H k
theorem rx_pw_in {α : Type} {o n k : Nat} {F H : Nat → α} (h : k < n) : rx_pw o n F H (o + k) = F k := by
  unfold rx_pw
  rw [if_pos ⟨by omega, by omega⟩, Nat.add_sub_cancel_left]
theorem rx_pw_out {α : Type} {o n k : Nat} {F H : Nat → α} (h : k < o ∨ o + n ≤ k) : rx_pw o n F H k = H k := by
  unfold rx_pw
  rw [if_neg (by omega)]
/-- an edge of a labelled fragment of n instructions: from k by the offset x to a place t (n: its end) whose depth is at least e, and inside no group that k isn't inside of -/
def rx_ed (D : Nat → Nat) (G : Nat → Nat → Prop) (n k : Nat) (x : Int32) (e : Nat) : Prop := ∃ t, t ≤ n ∧ nI k + x = nI t ∧ e ≤ D t ∧ ∀ g, G t g → G k g
/-- what the label of an instruction (depth D, groups G under way) must satisfy -/
def rx_nd (c f s : Nat → Int32) (D : Nat → Nat) (G : Nat → Nat → Prop) (n k : Nat) : Prop :=
  (c k = 0 ∧ ∀ g, G (k + 1) g → G k g) ∨
  (c k = 1 ∧ rx_ed D G n k (f k) (D k) ∧ rx_ed D G n k (s k) (D k)) ∨
  (c k = 2 ∧ rx_ed D G n k (f k) (D k)) ∨
  (c k = 3 ∧ D k ≤ D (k + 1) ∧ ∃ g, g < 3 ∧ ((f k = nI (3 + g) ∧ ∀ g', G (k + 1) g' → G k g' ∨ g' = g) ∨ (f k = nI g ∧ G k g ∧ ∀ g', G (k + 1) g' → G k g'))) ∨
  (c k = 5 ∧ rx_ed D G n k (f k) (D k + 1) ∧ rx_ed D G n k (s k) (D k)) ∨
  (c k = 6 ∧ rx_ed D G n k (f k) (D k + 1) ∧ rx_ed D G n k (s k) (D k)) ∨
  (c k = 7 ∧ rx_ed D G n k (f k) 0)
/-- a fragment of n instructions that can be labelled, depths at most md -/
def rx_FR (c f s : Nat → Int32) (n md : Nat) : Prop := ∃ (D : Nat → Nat) (G : Nat → Nat → Prop), (∀ k, k < n → D k ≤ md) ∧ D n = 0 ∧ (∀ g, ¬ G 0 g) ∧ (∀ g, ¬ G n g) ∧ ∀ k, k < n → rx_nd c f s D G n k
theorem rx_ed_mono {D : Nat → Nat} {G : Nat → Nat → Prop} {n k : Nat} {x : Int32} {e e' : Nat} (h : rx_ed D G n k x e) (he : e' ≤ e) : rx_ed D G n k x e' := by
  obtain ⟨t, h1, h2, h3, h4⟩ := h
  exact ⟨t, h1, h2, Nat.le_trans he h3, h4⟩
theorem rx_nd_congr {c f s c' f' s' : Nat → Int32} {D : Nat → Nat} {G : Nat → Nat → Prop} {n k : Nat} (hc : c' k = c k) (hf : f' k = f k) (hs : s' k = s k) (h : rx_nd c f s D G n k) : rx_nd c' f' s' D G n k := by
  unfold rx_nd at h ⊢
  rw [hc, hf, hs]
  exact h
theorem rx_FR_congr {c f s c' f' s' : Nat → Int32} {n md : Nat} (h : rx_FR c f s n md) (hc : ∀ k, k < n → c' k = c k ∧ f' k = f k ∧ s' k = s k) : rx_FR c' f' s' n md := by
  obtain ⟨D, G, h1, h2, h3, h4, h5⟩ := h
  exact ⟨D, G, h1, h2, h3, h4, fun k hk => rx_nd_congr (hc k hk).1 (hc k hk).2.1 (hc k hk).2.2 (h5 k hk)⟩
theorem rx_FR_mono {c f s : Nat → Int32} {n md md' : Nat} (h : rx_FR c f s n md) (hm : md ≤ md') : rx_FR c f s n md' := by
  obtain ⟨D, G, h1, h2, h3, h4, h5⟩ := h
  exact ⟨D, G, fun k hk => Nat.le_trans (h1 k hk) hm, h2, h3, h4, h5⟩
theorem rx_emb {c f s c' f' s' : Nat → Int32} {D D' : Nat → Nat} {G G' : Nat → Nat → Prop} {n n' o e : Nat} {E : Nat → Prop}
    (hn : o + n ≤ n') (hc : ∀ k, k < n → c' (o + k) = c k ∧ f' (o + k) = f k ∧ s' (o + k) = s k)
    (hD : ∀ k, k < n → D' (o + k) = D k + e) (hG : ∀ k, k < n → ∀ g, G' (o + k) g ↔ (G k g ∨ E g))
    (hDn : e ≤ D' (o + n)) (hGn : ∀ g, G' (o + n) g → E g) (hD0 : D n = 0)
    {k : Nat} (hk : k < n) (h : rx_nd c f s D G n k) : rx_nd c' f' s' D' G' n' (o + k) := by
  have HD : ∀ t, t ≤ n → D t + e ≤ D' (o + t) := by
    intro t ht
    rcases Nat.lt_or_ge t n with z | z
    · rw [hD t z]
      exact Nat.le_refl _
    · have et : t = n := by omega
      rw [et, hD0]
      omega
  have HG : ∀ t, t ≤ n → ∀ g, G' (o + t) g → G t g ∨ E g := by
    intro t ht g hg
    rcases Nat.lt_or_ge t n with z | z
    · exact (hG t z g).mp hg
    · have et : t = n := by omega
      rw [et] at hg
      exact Or.inr (hGn g hg)
  have HE : ∀ (x : Int32) (e0 : Nat), rx_ed D G n k x e0 → rx_ed D' G' n' (o + k) x (e0 + e) := by
    intro x e0 hx
    obtain ⟨t, h1, h2, h3, h4⟩ := hx
    refine ⟨o + t, by omega, ?_, ?_, ?_⟩
    · rw [← nI_add, ← nI_add, ← h2]
      grind
    · have := HD t h1
      omega
    · intro g hg
      rcases HG t h1 g hg with z | z
      · exact (hG k hk g).mpr (Or.inl (h4 g z))
      · exact (hG k hk g).mpr (Or.inr z)
  obtain ⟨ec, ef, es⟩ := hc k hk
  have eD := hD k hk
  have HG1 : ∀ g, G' (o + k + 1) g → G (k + 1) g ∨ E g := fun g hg => HG (k + 1) (by omega) g (by rw [← Nat.add_assoc]; exact hg)
  have HD1 : D (k + 1) + e ≤ D' (o + k + 1) := by
    have := HD (k + 1) (by omega)
    rw [← Nat.add_assoc] at this
    exact this
  unfold rx_nd at h ⊢
  rw [ec, ef, es]
  rcases h with ⟨a, b⟩ | ⟨a, b, d⟩ | ⟨a, b⟩ | ⟨a, b, g, hg, d⟩ | ⟨a, b, d⟩ | ⟨a, b, d⟩ | ⟨a, b⟩
  · refine Or.inl ⟨a, fun g hg => ?_⟩
    rcases HG1 g hg with z | z
    · exact (hG k hk g).mpr (Or.inl (b g z))
    · exact (hG k hk g).mpr (Or.inr z)
  · exact Or.inr (Or.inl ⟨a, by rw [eD]; exact HE _ _ b, by rw [eD]; exact HE _ _ d⟩)
  · exact Or.inr (Or.inr (Or.inl ⟨a, by rw [eD]; exact HE _ _ b⟩))
  · refine Or.inr (Or.inr (Or.inr (Or.inl ⟨a, by omega, g, hg, ?_⟩)))
    rcases d with ⟨d1, d2⟩ | ⟨d1, d2, d3⟩
    · refine Or.inl ⟨d1, fun g' hg' => ?_⟩
      rcases HG1 g' hg' with z | z
      · rcases d2 g' z with y | y
        · exact Or.inl ((hG k hk g').mpr (Or.inl y))
        · exact Or.inr y
      · exact Or.inl ((hG k hk g').mpr (Or.inr z))
    · refine Or.inr ⟨d1, (hG k hk g).mpr (Or.inl d2), fun g' hg' => ?_⟩
      rcases HG1 g' hg' with z | z
      · exact (hG k hk g').mpr (Or.inl (d3 g' z))
      · exact (hG k hk g').mpr (Or.inr z)
  · exact Or.inr (Or.inr (Or.inr (Or.inr (Or.inl ⟨a, by rw [eD]; exact rx_ed_mono (HE _ _ b) (by omega), by rw [eD]; exact HE _ _ d⟩))))
  · exact Or.inr (Or.inr (Or.inr (Or.inr (Or.inr (Or.inl ⟨a, by rw [eD]; exact rx_ed_mono (HE _ _ b) (by omega), by rw [eD]; exact HE _ _ d⟩)))))
  · exact Or.inr (Or.inr (Or.inr (Or.inr (Or.inr (Or.inr ⟨a, rx_ed_mono (HE _ _ b) (by omega)⟩)))))
theorem rx_FR_nil {c f s : Nat → Int32} {md : Nat} : rx_FR c f s 0 md :=
  ⟨fun _ => 0, fun _ _ => False, fun k hk => absurd hk (by omega), rfl, fun _ h => h, fun _ h => h, fun k hk => absurd hk (by omega)⟩
theorem rx_FR_leaf {c f s : Nat → Int32} {md : Nat} (h : c 0 = 0) : rx_FR c f s 1 md := by
  refine ⟨fun _ => 0, fun _ _ => False, fun k hk => Nat.zero_le _, rfl, fun _ h => h, fun _ h => h, fun k hk => ?_⟩
  have e : k = 0 := by omega
  rw [e]
  exact Or.inl ⟨h, fun g hg => hg⟩
theorem rx_FR_cat {c f s : Nat → Int32} {m n md : Nat} (hX : rx_FR c f s m md) (hY : rx_FR (fun k => c (m + k)) (fun k => f (m + k)) (fun k => s (m + k)) n md) : rx_FR c f s (m + n) md := by
  obtain ⟨D, G, x1, x2, x3, x4, x5⟩ := hX
  obtain ⟨D', G', y1, y2, y3, y4, y5⟩ := hY
  have dX : ∀ k, k < m → rx_pw 0 m D (fun k => D' (k - m)) k = D k := by
    intro k hk
    have := rx_pw_in (o := 0) (F := D) (H := fun k => D' (k - m)) hk
    rw [Nat.zero_add] at this
    exact this
  have gX : ∀ k, k < m → rx_pw 0 m G (fun k => G' (k - m)) k = G k := by
    intro k hk
    have := rx_pw_in (o := 0) (F := G) (H := fun k => G' (k - m)) hk
    rw [Nat.zero_add] at this
    exact this
  have dY : ∀ k, rx_pw 0 m D (fun k => D' (k - m)) (m + k) = D' k := by
    intro k
    rw [rx_pw_out (by omega)]
    show D' (m + k - m) = D' k
    rw [Nat.add_sub_cancel_left]
  have gY : ∀ k, rx_pw 0 m G (fun k => G' (k - m)) (m + k) = G' k := by
    intro k
    rw [rx_pw_out (by omega)]
    show G' (m + k - m) = G' k
    rw [Nat.add_sub_cancel_left]
  refine ⟨rx_pw 0 m D (fun k => D' (k - m)), rx_pw 0 m G (fun k => G' (k - m)), ?_, ?_, ?_, ?_, ?_⟩
  · intro k hk
    rcases Nat.lt_or_ge k m with z | z
    · rw [dX k z]
      exact x1 k z
    · obtain ⟨j, rfl⟩ : ∃ j, k = m + j := ⟨k - m, by omega⟩
      rw [dY j]
      exact y1 j (by omega)
  · rw [dY n]
    exact y2
  · intro g
    rcases Nat.lt_or_ge 0 m with z | z
    · rw [gX 0 z]
      exact x3 g
    · have e := gY 0
      rw [show m + 0 = 0 by omega] at e
      rw [e]
      exact y3 g
  · intro g
    rw [gY n]
    exact y4 g
  · intro k hk
    rcases Nat.lt_or_ge k m with z | z
    · have := rx_emb (c' := c) (f' := f) (s' := s) (D' := rx_pw 0 m D (fun k => D' (k - m))) (G' := rx_pw 0 m G (fun k => G' (k - m))) (n' := m + n) (o := 0) (e := 0) (E := fun _ => False) (by omega) (fun k hk => by rw [Nat.zero_add]; exact ⟨rfl, rfl, rfl⟩) (fun k hk => by rw [Nat.zero_add]; exact dX k hk) (fun k hk g => by rw [Nat.zero_add, gX k hk]; exact ⟨Or.inl, fun h => h.elim id False.elim⟩) (Nat.zero_le _) (fun g hg => y3 g (by rw [← gY 0, Nat.add_zero, ← Nat.zero_add m]; rw [Nat.zero_add] at hg ⊢; exact hg)) x2 z (x5 k z)
      rw [Nat.zero_add] at this
      exact this
    · obtain ⟨j, rfl⟩ : ∃ j, k = m + j := ⟨k - m, by omega⟩
      exact rx_emb (e := 0) (E := fun _ => False) (by omega) (fun k hk => ⟨rfl, rfl, rfl⟩) (fun k hk => dY k) (fun k hk g => by rw [gY k]; exact ⟨Or.inl, fun h => h.elim id False.elim⟩) (Nat.zero_le _) (fun g hg => y4 g (by rw [gY n] at hg; exact hg)) y2 (by omega) (y5 j (by omega))
theorem rx_FR_alt {c f s cX fX sX cY fY sY : Nat → Int32} {m n md : Nat} (hX : rx_FR cX fX sX m md) (hY : rx_FR cY fY sY n md)
    (h0 : c 0 = 1 ∧ f 0 = 1 ∧ s 0 = nI (m + 2)) (h1 : ∀ k, k < m → c (1 + k) = cX k ∧ f (1 + k) = fX k ∧ s (1 + k) = sX k)
    (h2 : c (m + 1) = 2 ∧ f (m + 1) = nI (n + 1)) (h3 : ∀ k, k < n → c (m + 2 + k) = cY k ∧ f (m + 2 + k) = fY k ∧ s (m + 2 + k) = sY k) : rx_FR c f s (m + n + 2) md := by
  obtain ⟨D, G, x1, x2, x3, x4, x5⟩ := hX
  obtain ⟨D', G', y1, y2, y3, y4, y5⟩ := hY
  have dX : ∀ k, k < m → rx_pw 1 m D (rx_pw (m + 2) n D' (fun _ => 0)) (1 + k) = D k := fun k hk => rx_pw_in hk
  have gX : ∀ k, k < m → rx_pw 1 m G (rx_pw (m + 2) n G' (fun _ _ => False)) (1 + k) = G k := fun k hk => rx_pw_in hk
  have dY : ∀ k, k < n → rx_pw 1 m D (rx_pw (m + 2) n D' (fun _ => 0)) (m + 2 + k) = D' k := fun k hk => by
    rw [rx_pw_out (by omega)]
    exact rx_pw_in hk
  have gY : ∀ k, k < n → rx_pw 1 m G (rx_pw (m + 2) n G' (fun _ _ => False)) (m + 2 + k) = G' k := fun k hk => by
    rw [rx_pw_out (by omega)]
    exact rx_pw_in hk
  have dO : ∀ k, k = 0 ∨ k = m + 1 ∨ m + n + 2 ≤ k → rx_pw 1 m D (rx_pw (m + 2) n D' (fun _ => 0)) k = 0 := fun k hk => by
    rw [rx_pw_out (by omega), rx_pw_out (by omega)]
  have gO : ∀ k g, k = 0 ∨ k = m + 1 ∨ m + n + 2 ≤ k → ¬ rx_pw 1 m G (rx_pw (m + 2) n G' (fun _ _ => False)) k g := fun k g hk => by
    rw [rx_pw_out (by omega), rx_pw_out (by omega)]
    exact id
  have g1 : ∀ g, ¬ rx_pw 1 m G (rx_pw (m + 2) n G' (fun _ _ => False)) 1 g := by
    intro g
    rcases Nat.lt_or_ge 0 m with z | z
    · have := gX 0 z
      rw [Nat.add_zero] at this
      rw [this]
      exact x3 g
    · exact gO 1 g (by omega)
  have g2 : ∀ g, ¬ rx_pw 1 m G (rx_pw (m + 2) n G' (fun _ _ => False)) (m + 2) g := by
    intro g
    rcases Nat.lt_or_ge 0 n with z | z
    · have := gY 0 z
      rw [Nat.add_zero] at this
      rw [this]
      exact y3 g
    · exact gO (m + 2) g (by omega)
  refine ⟨rx_pw 1 m D (rx_pw (m + 2) n D' (fun _ => 0)), rx_pw 1 m G (rx_pw (m + 2) n G' (fun _ _ => False)), ?_, dO _ (by omega), fun g => gO 0 g (by omega), fun g => gO _ g (by omega), ?_⟩
  · intro k hk
    rcases Nat.lt_or_ge k (m + 1) with z | z
    · rcases Nat.eq_zero_or_pos k with y | y
      · rw [dO k (by omega)]
        exact Nat.zero_le _
      · obtain ⟨j, rfl⟩ : ∃ j, k = 1 + j := ⟨k - 1, by omega⟩
        rw [dX j (by omega)]
        exact x1 j (by omega)
    · rcases Nat.lt_or_ge k (m + 2) with y | y
      · rw [dO k (by omega)]
        exact Nat.zero_le _
      · obtain ⟨j, rfl⟩ : ∃ j, k = m + 2 + j := ⟨k - (m + 2), by omega⟩
        rw [dY j (by omega)]
        exact y1 j (by omega)
  · intro k hk
    rcases Nat.lt_or_ge k (m + 1) with z | z
    · rcases Nat.eq_zero_or_pos k with y | y
      · rw [y]
        refine Or.inr (Or.inl ⟨h0.1, ⟨1, by omega, ?_, ?_, fun g hg => absurd hg (g1 g)⟩, ⟨m + 2, by omega, ?_, ?_, fun g hg => absurd hg (g2 g)⟩⟩)
        · rw [h0.2.1]
          rfl
        · rw [dO 0 (by omega)]
          exact Nat.zero_le _
        · rw [h0.2.2, nI_add, Nat.zero_add]
        · rw [dO 0 (by omega)]
          exact Nat.zero_le _
      · obtain ⟨j, rfl⟩ : ∃ j, k = 1 + j := ⟨k - 1, by omega⟩
        exact rx_emb (e := 0) (E := fun _ => False) (by omega) h1 dX (fun k hk g => by rw [gX k hk]; exact ⟨Or.inl, fun h => h.elim id False.elim⟩) (Nat.zero_le _) (fun g hg => gO (1 + m) g (by omega) hg) x2 (by omega) (x5 j (by omega))
    · rcases Nat.lt_or_ge k (m + 2) with y | y
      · have e : k = m + 1 := by omega
        rw [e]
        refine Or.inr (Or.inr (Or.inl ⟨h2.1, ⟨m + n + 2, by omega, ?_, ?_, fun g hg => absurd hg (gO _ g (by omega))⟩⟩))
        · rw [h2.2, nI_add]
          congr 1
          omega
        · rw [dO (m + 1) (by omega)]
          exact Nat.zero_le _
      · obtain ⟨j, rfl⟩ : ∃ j, k = m + 2 + j := ⟨k - (m + 2), by omega⟩
        exact rx_emb (e := 0) (E := fun _ => False) (by omega) h3 dY (fun k hk g => by rw [gY k hk]; exact ⟨Or.inl, fun h => h.elim id False.elim⟩) (Nat.zero_le _) (fun g hg => gO (m + 2 + n) g (by omega) hg) y2 (by omega) (y5 j (by omega))
theorem rx_FR_star {c f s cX fX sX : Nat → Int32} {m md : Nat} (hX : rx_FR cX fX sX m md)
    (h0 : (c 0 = 5 ∨ c 0 = 6) ∧ f 0 = 1 ∧ s 0 = nI (m + 2)) (h1 : ∀ k, k < m → c (1 + k) = cX k ∧ f (1 + k) = fX k ∧ s (1 + k) = sX k)
    (h2 : c (m + 1) = 7 ∧ f (m + 1) = -nI m - 1) : rx_FR c f s (m + 2) (md + 1) := by
  obtain ⟨D, G, x1, x2, x3, x4, x5⟩ := hX
  have dX : ∀ k, k < m → rx_pw 1 m (fun k => D k + 1) (fun k => if k = m + 1 then 1 else 0) (1 + k) = D k + 1 := fun k hk => rx_pw_in hk
  have gX : ∀ k, k < m → rx_pw 1 m G (fun _ _ => False) (1 + k) = G k := fun k hk => rx_pw_in hk
  have d0 : rx_pw 1 m (fun k => D k + 1) (fun k => if k = m + 1 then 1 else 0) 0 = 0 := by
    rw [rx_pw_out (by omega), if_neg (by omega)]
  have dn : rx_pw 1 m (fun k => D k + 1) (fun k => if k = m + 1 then 1 else 0) (m + 2) = 0 := by
    rw [rx_pw_out (by omega), if_neg (by omega)]
  have da : rx_pw 1 m (fun k => D k + 1) (fun k => if k = m + 1 then 1 else 0) (m + 1) = 1 := by
    rw [rx_pw_out (by omega), if_pos rfl]
  have gO : ∀ k g, k = 0 ∨ m + 1 ≤ k → ¬ rx_pw 1 m G (fun _ _ => False) k g := fun k g hk => by
    rw [rx_pw_out (by omega)]
    exact id
  have g1 : ∀ g, ¬ rx_pw 1 m G (fun _ _ => False) 1 g := by
    intro g
    rcases Nat.lt_or_ge 0 m with z | z
    · have := gX 0 z
      rw [Nat.add_zero] at this
      rw [this]
      exact x3 g
    · exact gO 1 g (by omega)
  have d1 : 1 ≤ rx_pw 1 m (fun k => D k + 1) (fun k => if k = m + 1 then 1 else 0) 1 := by
    rcases Nat.lt_or_ge 0 m with z | z
    · have := dX 0 z
      rw [Nat.add_zero] at this
      rw [this]
      omega
    · have e : m = 0 := by omega
      subst e
      rw [da]
      exact Nat.le_refl _
  refine ⟨rx_pw 1 m (fun k => D k + 1) (fun k => if k = m + 1 then 1 else 0), rx_pw 1 m G (fun _ _ => False), ?_, dn, fun g => gO 0 g (by omega), fun g => gO _ g (by omega), ?_⟩
  · intro k hk
    rcases Nat.lt_or_ge k (m + 1) with z | z
    · rcases Nat.eq_zero_or_pos k with y | y
      · rw [y, d0]
        exact Nat.zero_le _
      · obtain ⟨j, rfl⟩ : ∃ j, k = 1 + j := ⟨k - 1, by omega⟩
        rw [dX j (by omega)]
        exact Nat.succ_le_succ (x1 j (by omega))
    · have e : k = m + 1 := by omega
      rw [e, da]
      omega
  · intro k hk
    rcases Nat.lt_or_ge k (m + 1) with z | z
    · rcases Nat.eq_zero_or_pos k with y | y
      · rw [y]
        have E1 : rx_ed (rx_pw 1 m (fun k => D k + 1) (fun k => if k = m + 1 then 1 else 0)) (rx_pw 1 m G (fun _ _ => False)) (m + 2) 0 (f 0) (rx_pw 1 m (fun k => D k + 1) (fun k => if k = m + 1 then 1 else 0) 0 + 1) := by
          refine ⟨1, by omega, ?_, ?_, fun g hg => absurd hg (g1 g)⟩
          · rw [h0.2.1]
            rfl
          · rw [d0]
            exact d1
        have E2 : rx_ed (rx_pw 1 m (fun k => D k + 1) (fun k => if k = m + 1 then 1 else 0)) (rx_pw 1 m G (fun _ _ => False)) (m + 2) 0 (s 0) (rx_pw 1 m (fun k => D k + 1) (fun k => if k = m + 1 then 1 else 0) 0) := by
          refine ⟨m + 2, by omega, ?_, ?_, fun g hg => absurd hg (gO _ g (by omega))⟩
          · rw [h0.2.2, nI_add, Nat.zero_add]
          · rw [d0]
            exact Nat.zero_le _
        rcases h0.1 with q | q
        · exact Or.inr (Or.inr (Or.inr (Or.inr (Or.inl ⟨q, E1, E2⟩))))
        · exact Or.inr (Or.inr (Or.inr (Or.inr (Or.inr (Or.inl ⟨q, E1, E2⟩)))))
      · obtain ⟨j, rfl⟩ : ∃ j, k = 1 + j := ⟨k - 1, by omega⟩
        exact rx_emb (e := 1) (E := fun _ => False) (by omega) h1 dX (fun k hk g => by rw [gX k hk]; exact ⟨Or.inl, fun h => h.elim id False.elim⟩) (by rw [Nat.add_comm 1 m, da]; exact Nat.le_refl _) (fun g hg => gO (1 + m) g (by omega) hg) x2 (by omega) (x5 j (by omega))
    · have e : k = m + 1 := by omega
      rw [e]
      refine Or.inr (Or.inr (Or.inr (Or.inr (Or.inr (Or.inr ⟨h2.1, ⟨0, by omega, ?_, Nat.zero_le _, fun g hg => absurd hg (gO 0 g (by omega))⟩⟩)))))
      rw [h2.2, nI_succ, nI_0]
      grind
theorem rx_FR_group {c f s cX fX sX : Nat → Int32} {m md g : Nat} (hg : g < 3) (hX : rx_FR cX fX sX m md)
    (h0 : c 0 = 3 ∧ f 0 = nI (3 + g)) (h1 : ∀ k, k < m → c (1 + k) = cX k ∧ f (1 + k) = fX k ∧ s (1 + k) = sX k)
    (h2 : c (m + 1) = 3 ∧ f (m + 1) = nI g) : rx_FR c f s (m + 2) md := by
  obtain ⟨D, G, x1, x2, x3, x4, x5⟩ := hX
  have dX : ∀ k, k < m → rx_pw 1 m D (fun _ => 0) (1 + k) = D k := fun k hk => rx_pw_in hk
  have gX : ∀ k, k < m → rx_pw 1 m (fun k h => G k h ∨ h = g) (fun k h => k = m + 1 ∧ h = g) (1 + k) = fun h => G k h ∨ h = g := fun k hk => rx_pw_in hk
  have dO : ∀ k, k = 0 ∨ m + 1 ≤ k → rx_pw 1 m D (fun _ => 0) k = 0 := fun k hk => by
    rw [rx_pw_out (by omega)]
  have gO : ∀ k, k = 0 ∨ m + 1 ≤ k → rx_pw 1 m (fun k h => G k h ∨ h = g) (fun k h => k = m + 1 ∧ h = g) k = fun h => k = m + 1 ∧ h = g := fun k hk => rx_pw_out (by omega)
  have g1 : ∀ h, rx_pw 1 m (fun k h => G k h ∨ h = g) (fun k h => k = m + 1 ∧ h = g) 1 h → h = g := by
    intro h hh
    rcases Nat.lt_or_ge 0 m with z | z
    · have := gX 0 z
      rw [Nat.add_zero] at this
      rw [this] at hh
      rcases hh with y | y
      · exact absurd y (x3 h)
      · exact y
    · rw [gO 1 (by omega)] at hh
      exact hh.2
  refine ⟨rx_pw 1 m D (fun _ => 0), rx_pw 1 m (fun k h => G k h ∨ h = g) (fun k h => k = m + 1 ∧ h = g), ?_, dO _ (by omega), ?_, ?_, ?_⟩
  · intro k hk
    rcases Nat.lt_or_ge k (m + 1) with z | z
    · rcases Nat.eq_zero_or_pos k with y | y
      · rw [dO k (by omega)]
        exact Nat.zero_le _
      · obtain ⟨j, rfl⟩ : ∃ j, k = 1 + j := ⟨k - 1, by omega⟩
        rw [dX j (by omega)]
        exact x1 j (by omega)
    · rw [dO k (by omega)]
      exact Nat.zero_le _
  · intro h hh
    rw [gO 0 (by omega)] at hh
    exact absurd hh.1 (by omega)
  · intro h hh
    rw [gO (m + 2) (by omega)] at hh
    exact absurd hh.1 (by omega)
  · intro k hk
    rcases Nat.lt_or_ge k (m + 1) with z | z
    · rcases Nat.eq_zero_or_pos k with y | y
      · rw [y]
        refine Or.inr (Or.inr (Or.inr (Or.inl ⟨h0.1, ?_, g, hg, Or.inl ⟨h0.2, fun h hh => Or.inr (g1 h hh)⟩⟩)))
        rw [dO 0 (by omega)]
        exact Nat.zero_le _
      · obtain ⟨j, rfl⟩ : ∃ j, k = 1 + j := ⟨k - 1, by omega⟩
        exact rx_emb (e := 0) (E := fun h => h = g) (by omega) h1 dX (fun k hk h => by rw [gX k hk]) (Nat.zero_le _) (fun h hh => by rw [gO (1 + m) (by omega)] at hh; exact hh.2) x2 (by omega) (x5 j (by omega))
    · have e : k = m + 1 := by omega
      rw [e]
      refine Or.inr (Or.inr (Or.inr (Or.inl ⟨h2.1, ?_, g, hg, Or.inr ⟨h2.2, ?_, ?_⟩⟩)))
      · rw [dO (m + 1) (by omega)]
        exact Nat.zero_le _
      · rw [gO (m + 1) (by omega)]
        exact ⟨rfl, rfl⟩
      · intro h hh
        rw [gO (m + 1 + 1) (by omega)] at hh
        exact absurd hh.1 (by omega)
end
section
theorem rx_no {α : Type} {x : α} (h : (none : Option α) = some x) : False := by cases h
theorem rx_so {α : Type} {x : α} (h : some x = (none : Option α)) : False := by cases h
/-- an entry that waits: instruction, idle rounds, notes -/
abbrev rx_E : Type := Nat × Nat × (Nat → Int32)
/-- a thread: instruction and notes -/
abbrev rx_T : Type := Nat × (Nat → Int32)
/-- where an instruction at pc leads by its offset -/
def rx_tg (f : Nat → Int32) (pc : Nat) : Nat := (nI pc + f pc).toNatClampNeg
def rx_note (A : Nat → Int32) (v p : Int32) : Nat → Int32 := if v < 3 then upd A v.toNatClampNeg (16 * A (v + 3).toNatClampNeg + p) else upd A v.toNatClampNeg p
def rx_na (c f : Nat → Int32) (p : Int32) (pc : Nat) (A : Nat → Int32) : Nat → Int32 := if c pc = 3 then rx_note A (f pc) p else A
/-- the successors of a node (instruction, idle), the preferred one first -/
def rx_sc (c f s : Nat → Int32) (pc d : Nat) : List (Nat × Nat) :=
  if c pc = 1 then [(rx_tg f pc, d), (rx_tg s pc, d)]
  else if c pc = 5 then [(rx_tg f pc, d + 1), (rx_tg s pc, d)]
  else if c pc = 6 then [(rx_tg s pc, d), (rx_tg f pc, d + 1)]
  else if c pc = 2 then [(rx_tg f pc, d)]
  else if c pc = 7 then (if d = 0 then [(rx_tg f pc, d)] else [])
  else if c pc = 3 then [(pc + 1, d)]
  else []
def rx_nx (c f s : Nat → Int32) (p : Int32) (pc d : Nat) (A : Nat → Int32) : List rx_E := (rx_sc c f s pc d).map (fun q => (q.1, q.2, rx_na c f p pc A))
def rx_mk (c : Nat → Int32) (pc d : Nat) : Nat := if c pc = 0 ∨ c pc = 4 then pc * 17 else pc * 17 + d
def rx_ot (c : Nat → Int32) (pc : Nat) (A : Nat → Int32) : List rx_T := if c pc = 0 ∨ c pc = 4 then [(pc, A)] else []
/-- follow: k rounds at most; st waits, V are the marks, O the threads made -/
def rx_go (c f s : Nat → Int32) (p : Int32) : Nat → List rx_E → List Nat → List rx_T → List rx_E × List Nat × List rx_T
  | 0, st, V, O => (st, V, O)
  | _ + 1, [], V, O => ([], V, O)
  | k + 1, e :: st, V, O => if rx_mk c e.1 e.2.1 ∈ V then rx_go c f s p k st V O else rx_go c f s p k (rx_nx c f s p e.1 e.2.1 e.2.2 ++ st) (rx_mk c e.1 e.2.1 :: V) (O ++ rx_ot c e.1 e.2.2)
/-- step: the threads of place p one by one -/
def rx_sp (c f s : Nat → Int32) (n : Nat) (tx : Nat → Int32) (p : Nat) (acc : Int32) : List rx_T → List Nat → List rx_T → List Nat × List rx_T × Option (Nat → Int32)
  | [], V, O => (V, O, none)
  | t :: ts, V, O => if c t.1 = 4 then (if acc < 0 ∨ acc = nI p then (V, O, some t.2) else rx_sp c f s n tx p acc ts V O)
      else if p < n ∧ (f t.1 = 3 ∨ f t.1 = tx p) then rx_sp c f s n tx p acc ts (rx_go c f s (nI (p + 1)) 1300 [(t.1 + 1, 0, t.2)] V O).2.1 (rx_go c f s (nI (p + 1)) 1300 [(t.1 + 1, 0, t.2)] V O).2.2
      else rx_sp c f s n tx p acc ts V O
def rx_up (p : Nat) (o : Option (Nat → Int32)) (r : Option (Nat × (Nat → Int32))) : Option (Nat × (Nat → Int32)) := match o with
  | some A => some (p, A)
  | none => r
/-- the places from p on, k of them -/
def rx_run (c f s : Nat → Int32) (n : Nat) (tx : Nat → Int32) (acc : Int32) : Nat → Nat → List rx_T → Option (Nat × (Nat → Int32)) → Option (Nat × (Nat → Int32))
  | 0, _, _, r => r
  | _ + 1, _, [], r => r
  | k + 1, p, t :: ts, r => rx_run c f s n tx acc k (p + 1) (rx_sp c f s n tx p acc (t :: ts) [] []).2.1 (rx_up p (rx_sp c f s n tx p acc (t :: ts) [] []).2.2 r)
def rx_se (c f s : Nat → Int32) (n : Nat) (tx : Nat → Int32) (i : Nat) (acc : Int32) : Option (Nat × (Nat → Int32)) :=
  rx_run c f s n tx acc (n + 1 - i) i (rx_go c f s (nI i) 1300 [(0, 0, fun _ => -4)] [] []).2.2 none
/-- the program in use: labelled, L instructions and DONE -/
def rx_PW (c f s : Nat → Int32) (D : Nat → Nat) (G : Nat → Nat → Prop) (L : Nat) : Prop := L ≤ 32 ∧ (∀ k, k ≤ L → D k ≤ 16) ∧ (∀ g, ¬ G 0 g) ∧ (∀ k, k < L → rx_nd c f s D G L k) ∧ c L = 4
def rx_set (i p : Nat) (x : Int32) : Prop := ∃ b, i ≤ b ∧ b ≤ p ∧ x = nI b
def rx_grp (i p : Nat) (x : Int32) : Prop := ∃ b e, i ≤ b ∧ b ≤ e ∧ e ≤ p ∧ x = nI (16 * b + e)
def rx_nt (i p : Nat) (A : Nat → Int32) : Prop := ∀ g, g < 3 → (A g = -4 ∨ rx_grp i p (A g)) ∧ (A (3 + g) = -4 ∨ rx_set i p (A (3 + g)))
def rx_ok (D : Nat → Nat) (G : Nat → Nat → Prop) (L i p pc d : Nat) (A : Nat → Int32) : Prop := pc ≤ L ∧ d ≤ D pc ∧ rx_nt i p A ∧ ∀ g, g < 3 → G pc g → rx_set i p (A (3 + g))
theorem rx_PW_of {c f s : Nat → Int32} {L md : Nat} (h : rx_FR c f s L md) (hL : L ≤ 32) (hm : md ≤ 16) (h4 : c L = 4) : ∃ D G, rx_PW c f s D G L := by
  obtain ⟨D, G, h1, h2, h3, _, h5⟩ := h
  refine ⟨D, G, hL, fun k hk => ?_, h3, h5, h4⟩
  rcases Nat.lt_or_ge k L with z | z
  · exact Nat.le_trans (h1 k z) hm
  · have e : k = L := by omega
    rw [e, h2]
    omega
theorem rx_tg_ed {f : Nat → Int32} {D : Nat → Nat} {G : Nat → Nat → Prop} {n k e : Nat} (hn : n ≤ 32) (h : rx_ed D G n k (f k) e) : rx_tg f k ≤ n ∧ e ≤ D (rx_tg f k) ∧ (∀ g, G (rx_tg f k) g → G k g) ∧ nI k + f k = nI (rx_tg f k) := by
  obtain ⟨t, h1, h2, h3, h4⟩ := h
  have e : rx_tg f k = t := by
    unfold rx_tg
    rw [h2]
    exact nI_clamp (by omega)
  rw [e]
  exact ⟨h1, h3, h4, h2⟩
theorem rx_set_mono {i p : Nat} {x : Int32} (h : rx_set i p x) : rx_set i (p + 1) x := by
  obtain ⟨b, h1, h2, h3⟩ := h
  exact ⟨b, h1, by omega, h3⟩
theorem rx_nt_mono {i p : Nat} {A : Nat → Int32} (h : rx_nt i p A) : rx_nt i (p + 1) A := by
  intro g hg
  obtain ⟨h1, h2⟩ := h g hg
  refine ⟨h1.imp id (fun z => ?_), h2.imp id rx_set_mono⟩
  obtain ⟨b, e, y1, y2, y3, y4⟩ := z
  exact ⟨b, e, y1, y2, by omega, y4⟩
theorem rx_note_b {A : Nat → Int32} {g : Nat} (hg : g < 3) (p : Int32) : rx_note A (nI (3 + g)) p = upd A (3 + g) p := by
  unfold rx_note
  rw [if_neg (show ¬ nI (3 + g) < 3 from nI_nlt (a := 3 + g) (b := 3) (by omega) (by omega)), nI_clamp (by omega)]
theorem rx_note_e {A : Nat → Int32} {g : Nat} (hg : g < 3) (p : Int32) : rx_note A (nI g) p = upd A g (16 * A (3 + g) + p) := by
  unfold rx_note
  rw [if_pos (show nI g < 3 from nI_lt (a := g) (b := 3) (by omega) (by omega)), nI_clamp (by omega), show nI g + 3 = nI (3 + g) by rw [Nat.add_comm, ← nI_add]; rfl, nI_clamp (by omega)]
theorem rx_nt_b {A : Nat → Int32} {i p g : Nat} (hg : g < 3) (hi : i ≤ p) (h : rx_nt i p A) : rx_nt i p (upd A (3 + g) (nI p)) := by
  intro h' hh
  refine ⟨?_, ?_⟩
  · rw [pk_un (by omega)]
    exact (h h' hh).1
  · by_cases e : h' = g
    · rw [e, pk_us]
      exact Or.inr ⟨p, hi, Nat.le_refl _, rfl⟩
    · rw [pk_un (by omega)]
      exact (h h' hh).2
theorem rx_nt_e {A : Nat → Int32} {i p g : Nat} (hg : g < 3) (h : rx_nt i p A) (hs : rx_set i p (A (3 + g))) : rx_nt i p (upd A g (16 * A (3 + g) + nI p)) := by
  obtain ⟨b, h1, h2, h3⟩ := hs
  intro h' hh
  refine ⟨?_, ?_⟩
  · by_cases e : h' = g
    · rw [e, pk_us, h3]
      refine Or.inr ⟨b, p, h1, h2, Nat.le_refl _, ?_⟩
      rw [show (16 : Int32) = nI 16 from rfl, pk_mul, nI_add]
    · rw [pk_un e]
      exact (h h' hh).1
  · rw [pk_un (by omega)]
    exact (h h' hh).2
/-- a stop, or one of the six kinds -/
theorem rx_nd_c {c f s : Nat → Int32} {D : Nat → Nat} {G : Nat → Nat → Prop} {L pc : Nat} (hP : rx_PW c f s D G L) (hpc : pc ≤ L) (hs : ¬ (c pc = 0 ∨ c pc = 4)) : pc < L ∧ rx_nd c f s D G L pc := by
  obtain ⟨_, _, _, h5, h6⟩ := hP
  rcases Nat.lt_or_ge pc L with z | z
  · exact ⟨z, h5 pc z⟩
  · have e : pc = L := by omega
    rw [e] at hs
    exact absurd (Or.inr h6) hs
theorem rx_ne {x y : Int32} {a b : Int32} (h : x = a) (hab : a ≠ b) : ¬ x = b := fun z => hab (h.symm.trans z)
theorem rx_sc_stop {c f s : Nat → Int32} {pc d : Nat} (h : c pc = 0 ∨ c pc = 4) : rx_sc c f s pc d = [] := by
  unfold rx_sc
  rcases h with h | h <;> rw [h] <;> rfl
theorem rx_sc_len (c f s : Nat → Int32) (pc d : Nat) : (rx_sc c f s pc d).length ≤ 2 := by
  unfold rx_sc
  repeat' split
  all_goals simp
/-- a successor's label, and the notes there -/
theorem rx_ok_nx {c f s : Nat → Int32} {D : Nat → Nat} {G : Nat → Nat → Prop} {L i p pc d : Nat} {A : Nat → Int32} (hP : rx_PW c f s D G L) (hi : i ≤ p) (h : rx_ok D G L i p pc d A) : ∀ q, q ∈ rx_sc c f s pc d → rx_ok D G L i p q.1 q.2 (rx_na c f (nI p) pc A) := by
  intro q hq
  obtain ⟨hpc, hd, hn, hG⟩ := h
  by_cases hs : c pc = 0 ∨ c pc = 4
  · rw [rx_sc_stop hs] at hq
    exact absurd hq List.not_mem_nil
  · obtain ⟨hl, hnd⟩ := rx_nd_c hP hpc hs
    have hL : L ≤ 32 := hP.1
    have K : ∀ t e, t ≤ L → e ≤ D t → (∀ g, G t g → G pc g) → c pc ≠ 3 → rx_ok D G L i p t e (rx_na c f (nI p) pc A) := by
      intro t e h1 h2 h3 h4
      unfold rx_na
      rw [if_neg h4]
      exact ⟨h1, h2, hn, fun g hg hh => hG g hg (h3 g hh)⟩
    rcases hnd with ⟨a, b⟩ | ⟨a, b, b'⟩ | ⟨a, b⟩ | ⟨a, b, g, hg, b'⟩ | ⟨a, b, b'⟩ | ⟨a, b, b'⟩ | ⟨a, b⟩
    · exact absurd (Or.inl a) hs
    · have e3 : c pc ≠ 3 := by rw [a]; decide
      obtain ⟨t1, t2, t3, _⟩ := rx_tg_ed hL b
      obtain ⟨u1, u2, u3, _⟩ := rx_tg_ed hL b'
      unfold rx_sc at hq
      rw [if_pos a] at hq
      rcases List.mem_cons.mp hq with e | hq
      · rw [e]
        exact K _ _ t1 (Nat.le_trans hd t2) t3 e3
      · rw [List.mem_singleton.mp hq]
        exact K _ _ u1 (Nat.le_trans hd u2) u3 e3
    · have e3 : c pc ≠ 3 := by rw [a]; decide
      obtain ⟨t1, t2, t3, _⟩ := rx_tg_ed hL b
      unfold rx_sc at hq
      rw [if_neg (by rw [a]; decide), if_neg (by rw [a]; decide), if_neg (by rw [a]; decide), if_pos a] at hq
      rw [List.mem_singleton.mp hq]
      exact K _ _ t1 (Nat.le_trans hd t2) t3 e3
    · unfold rx_sc at hq
      rw [if_neg (by rw [a]; decide), if_neg (by rw [a]; decide), if_neg (by rw [a]; decide), if_neg (by rw [a]; decide), if_neg (by rw [a]; decide), if_pos a] at hq
      rw [List.mem_singleton.mp hq]
      unfold rx_na
      rw [if_pos a]
      rcases b' with ⟨d1, d2⟩ | ⟨d1, d2, d3⟩
      · rw [d1, rx_note_b hg]
        refine ⟨by show pc + 1 ≤ L; omega, Nat.le_trans hd b, rx_nt_b hg hi hn, fun g' hg' hh => ?_⟩
        by_cases e : g' = g
        · rw [e, pk_us]
          exact ⟨p, hi, Nat.le_refl _, rfl⟩
        · rw [pk_un (by omega)]
          rcases d2 g' hh with y | y
          · exact hG g' hg' y
          · exact absurd y e
      · rw [d1, rx_note_e hg]
        refine ⟨by show pc + 1 ≤ L; omega, Nat.le_trans hd b, rx_nt_e hg hn (hG g hg d2), fun g' hg' hh => ?_⟩
        rw [pk_un (by omega)]
        exact hG g' hg' (d3 g' hh)
    · have e3 : c pc ≠ 3 := by rw [a]; decide
      obtain ⟨t1, t2, t3, _⟩ := rx_tg_ed hL b
      obtain ⟨u1, u2, u3, _⟩ := rx_tg_ed hL b'
      unfold rx_sc at hq
      rw [if_neg (by rw [a]; decide), if_pos a] at hq
      rcases List.mem_cons.mp hq with e | hq
      · rw [e]
        exact K _ _ t1 (Nat.le_trans (Nat.succ_le_succ hd) t2) t3 e3
      · rw [List.mem_singleton.mp hq]
        exact K _ _ u1 (Nat.le_trans hd u2) u3 e3
    · have e3 : c pc ≠ 3 := by rw [a]; decide
      obtain ⟨t1, t2, t3, _⟩ := rx_tg_ed hL b
      obtain ⟨u1, u2, u3, _⟩ := rx_tg_ed hL b'
      unfold rx_sc at hq
      rw [if_neg (by rw [a]; decide), if_neg (by rw [a]; decide), if_pos a] at hq
      rcases List.mem_cons.mp hq with e | hq
      · rw [e]
        exact K _ _ u1 (Nat.le_trans hd u2) u3 e3
      · rw [List.mem_singleton.mp hq]
        exact K _ _ t1 (Nat.le_trans (Nat.succ_le_succ hd) t2) t3 e3
    · have e3 : c pc ≠ 3 := by rw [a]; decide
      obtain ⟨t1, t2, t3, _⟩ := rx_tg_ed hL b
      unfold rx_sc at hq
      rw [if_neg (by rw [a]; decide), if_neg (by rw [a]; decide), if_neg (by rw [a]; decide), if_neg (by rw [a]; decide), if_pos a] at hq
      by_cases h0 : d = 0
      · rw [if_pos h0] at hq
        rw [List.mem_singleton.mp hq]
        exact K _ _ t1 (by show d ≤ _; omega) t3 e3
      · rw [if_neg h0] at hq
        exact absurd hq List.not_mem_nil
theorem rx_mk_lt {c : Nat → Int32} {L pc d : Nat} (hL : L ≤ 32) (hpc : pc ≤ L) (hd : d ≤ 16) : rx_mk c pc d < 561 := by
  unfold rx_mk
  split <;> omega
theorem rx_mk_inj {c : Nat → Int32} {pc d pc' d' : Nat} (hd : d ≤ 16) (hd' : d' ≤ 16) (h : rx_mk c pc d = rx_mk c pc' d') : pc = pc' ∧ ((c pc = 0 ∨ c pc = 4) ∨ d = d') := by
  unfold rx_mk at h
  by_cases h1 : c pc = 0 ∨ c pc = 4
  · rw [if_pos h1] at h
    refine ⟨?_, Or.inl h1⟩
    split at h <;> omega
  · rw [if_neg h1] at h
    by_cases h2 : c pc' = 0 ∨ c pc' = 4
    · rw [if_pos h2] at h
      have e : pc = pc' := by omega
      rw [e] at h1
      exact absurd h2 h1
    · rw [if_neg h2] at h
      exact ⟨by omega, Or.inr (by omega)⟩
theorem rx_pig : ∀ (N : Nat) (l : List Nat), l.Nodup → (∀ x, x ∈ l → x < N) → l.length ≤ N := by
  intro N
  induction N with
  | zero =>
    intro l _ h
    cases l with
    | nil => exact Nat.le_refl _
    | cons a l => exact absurd (h a List.mem_cons_self) (by omega)
  | succ N ih =>
    intro l hl h
    by_cases hN : N ∈ l
    · have h1 := ih (l.erase N) (hl.erase N) (fun x hx => by
        have := (hl.mem_erase_iff).mp hx
        have h2 := h x this.2
        have h3 := this.1
        omega)
      rw [List.length_erase_of_mem hN] at h1
      omega
    · have h1 := ih l hl (fun x hx => by
        have h2 := h x hx
        have h3 : x ≠ N := fun e => hN (e ▸ hx)
        omega)
      omega
/-- an invariant of the rounds of follow -/
theorem rx_go_ind {c f s : Nat → Int32} {p : Int32} (I : Nat → List rx_E → List Nat → List rx_T → Prop)
    (h1 : ∀ k (e : rx_E) st V O, I (k + 1) (e :: st) V O → rx_mk c e.1 e.2.1 ∈ V → I k st V O)
    (h2 : ∀ k (e : rx_E) st V O, I (k + 1) (e :: st) V O → rx_mk c e.1 e.2.1 ∉ V → I k (rx_nx c f s p e.1 e.2.1 e.2.2 ++ st) (rx_mk c e.1 e.2.1 :: V) (O ++ rx_ot c e.1 e.2.2)) :
    ∀ k st V O, I k st V O → ∃ k', I k' (rx_go c f s p k st V O).1 (rx_go c f s p k st V O).2.1 (rx_go c f s p k st V O).2.2 ∧ (k' = 0 ∨ (rx_go c f s p k st V O).1 = []) := by
  intro k
  induction k with
  | zero => exact fun st V O h => ⟨0, h, Or.inl rfl⟩
  | succ k ih =>
    intro st V O h
    cases st with
    | nil => exact ⟨k + 1, h, Or.inr rfl⟩
    | cons e st =>
      by_cases hm : rx_mk c e.1 e.2.1 ∈ V
      · have E : rx_go c f s p (k + 1) (e :: st) V O = rx_go c f s p k st V O := by
          rw [rx_go, if_pos hm]
        rw [E]
        exact ih st V O (h1 k e st V O h hm)
      · have E : rx_go c f s p (k + 1) (e :: st) V O = rx_go c f s p k (rx_nx c f s p e.1 e.2.1 e.2.2 ++ st) (rx_mk c e.1 e.2.1 :: V) (O ++ rx_ot c e.1 e.2.2) := by
          rw [rx_go, if_neg hm]
        rw [E]
        exact ih _ _ _ (h2 k e st V O h hm)
/-- marks and threads made so far at place p -/
def rx_VO (c : Nat → Int32) (D : Nat → Nat) (G : Nat → Nat → Prop) (L i p : Nat) (V : List Nat) (O : List rx_T) : Prop :=
  V.Nodup ∧ (∀ m, m ∈ V → m < 561) ∧ (∀ t, t ∈ O → rx_ok D G L i p t.1 0 t.2 ∧ (c t.1 = 0 ∨ c t.1 = 4) ∧ t.1 * 17 ∈ V) ∧ (O.map Prod.fst).Nodup
def rx_J (c : Nat → Int32) (D : Nat → Nat) (G : Nat → Nat → Prop) (L i p : Nat) (k : Nat) (st : List rx_E) (V : List Nat) (O : List rx_T) : Prop :=
  rx_VO c D G L i p V O ∧ (∀ e, e ∈ st → rx_ok D G L i p e.1 e.2.1 e.2.2) ∧ st.length + (561 - V.length) ≤ 562 ∧ st.length + 2 * (561 - V.length) ≤ k
theorem rx_VO_0 {c : Nat → Int32} {D : Nat → Nat} {G : Nat → Nat → Prop} {L i p : Nat} : rx_VO c D G L i p [] [] :=
  ⟨List.nodup_nil, fun m h => absurd h List.not_mem_nil, fun t h => absurd h List.not_mem_nil, List.nodup_nil⟩
theorem rx_VO_len {c : Nat → Int32} {D : Nat → Nat} {G : Nat → Nat → Prop} {L i p : Nat} {V : List Nat} {O : List rx_T} (hL : L ≤ 32) (h : rx_VO c D G L i p V O) : V.length ≤ 561 ∧ O.length ≤ 33 := by
  obtain ⟨h1, h2, h3, h4⟩ := h
  refine ⟨rx_pig 561 V h1 h2, ?_⟩
  have := rx_pig 33 (O.map Prod.fst) h4 (fun x hx => by
    obtain ⟨t, ht, e⟩ := List.mem_map.mp hx
    have := (h3 t ht).1.1
    omega)
  rw [List.length_map] at this
  exact this
theorem rx_VO_add {c f s : Nat → Int32} {D : Nat → Nat} {G : Nat → Nat → Prop} {L i p pc d : Nat} {A : Nat → Int32} {V : List Nat} {O : List rx_T} (hP : rx_PW c f s D G L) (h : rx_VO c D G L i p V O) (he : rx_ok D G L i p pc d A) (hm : rx_mk c pc d ∉ V) :
    rx_VO c D G L i p (rx_mk c pc d :: V) (O ++ rx_ot c pc A) := by
  obtain ⟨h1, h2, h3, h4⟩ := h
  have hd : d ≤ 16 := Nat.le_trans he.2.1 (hP.2.1 pc he.1)
  refine ⟨List.nodup_cons.mpr ⟨hm, h1⟩, fun m h => ?_, fun t ht => ?_, ?_⟩
  · rcases List.mem_cons.mp h with e | z
    · rw [e]
      exact rx_mk_lt hP.1 he.1 hd
    · exact h2 m z
  · rcases List.mem_append.mp ht with z | z
    · obtain ⟨y1, y2, y3⟩ := h3 t z
      exact ⟨y1, y2, List.mem_cons_of_mem _ y3⟩
    · unfold rx_ot at z
      by_cases hs : c pc = 0 ∨ c pc = 4
      · rw [if_pos hs] at z
        rw [List.mem_singleton.mp z]
        refine ⟨⟨he.1, Nat.zero_le _, he.2.2.1, he.2.2.2⟩, hs, ?_⟩
        unfold rx_mk
        rw [if_pos hs]
        exact List.mem_cons_self
      · rw [if_neg hs] at z
        exact absurd z List.not_mem_nil
  · unfold rx_ot
    by_cases hs : c pc = 0 ∨ c pc = 4
    · rw [if_pos hs, List.map_append]
      refine List.nodup_append.mpr ⟨h4, List.nodup_cons.mpr ⟨List.not_mem_nil, List.nodup_nil⟩, ?_⟩
      intro a ha b hb e
      obtain ⟨t, ht, e2⟩ := List.mem_map.mp ha
      have e3 : b = pc := List.mem_singleton.mp hb
      have y := (h3 t ht).2.2
      unfold rx_mk at hm
      rw [if_pos hs] at hm
      rw [e2, e, e3] at y
      exact hm y
    · rw [if_neg hs, List.append_nil]
      exact h4
theorem rx_J_seen {c : Nat → Int32} {D : Nat → Nat} {G : Nat → Nat → Prop} {L i p k : Nat} {e : rx_E} {st : List rx_E} {V : List Nat} {O : List rx_T} (h : rx_J c D G L i p (k + 1) (e :: st) V O) : rx_J c D G L i p k st V O := by
  obtain ⟨h1, h2, h3, h4⟩ := h
  rw [List.length_cons] at h3 h4
  exact ⟨h1, fun e' he => h2 e' (List.mem_cons_of_mem _ he), by omega, by omega⟩
theorem rx_J_new {c f s : Nat → Int32} {D : Nat → Nat} {G : Nat → Nat → Prop} {L i p k : Nat} {e : rx_E} {st : List rx_E} {V : List Nat} {O : List rx_T} (hP : rx_PW c f s D G L) (hi : i ≤ p) (h : rx_J c D G L i p (k + 1) (e :: st) V O) (hm : rx_mk c e.1 e.2.1 ∉ V) :
    rx_J c D G L i p k (rx_nx c f s (nI p) e.1 e.2.1 e.2.2 ++ st) (rx_mk c e.1 e.2.1 :: V) (O ++ rx_ot c e.1 e.2.2) := by
  obtain ⟨h1, h2, h3, h4⟩ := h
  have hv := rx_VO_add hP h1 (h2 e List.mem_cons_self) hm
  have hV := (rx_VO_len hP.1 hv).1
  have hl : (rx_nx c f s (nI p) e.1 e.2.1 e.2.2).length ≤ 2 := by
    unfold rx_nx
    rw [List.length_map]
    exact rx_sc_len c f s e.1 e.2.1
  refine ⟨hv, fun e' he => ?_, ?_, ?_⟩
  · rcases List.mem_append.mp he with z | z
    · unfold rx_nx at z
      obtain ⟨q, hq, e2⟩ := List.mem_map.mp z
      rw [← e2]
      exact rx_ok_nx hP hi (h2 e List.mem_cons_self) q hq
    · exact h2 e' (List.mem_cons_of_mem _ z)
  · rw [List.length_append]
    rw [List.length_cons] at h3 hV ⊢
    omega
  · rw [List.length_append]
    rw [List.length_cons] at h4 hV ⊢
    omega
theorem rx_J_start {c : Nat → Int32} {D : Nat → Nat} {G : Nat → Nat → Prop} {L i p pc d : Nat} {A : Nat → Int32} {V : List Nat} {O : List rx_T} (h : rx_VO c D G L i p V O) (he : rx_ok D G L i p pc d A) : rx_J c D G L i p 1300 [(pc, d, A)] V O :=
  ⟨h, fun e h' => by rw [List.mem_singleton.mp h']; exact he, by show 1 + (561 - V.length) ≤ 562; omega, by show 1 + 2 * (561 - V.length) ≤ 1300; omega⟩
theorem rx_go_J {c f s : Nat → Int32} {D : Nat → Nat} {G : Nat → Nat → Prop} {L i p k : Nat} {st : List rx_E} {V : List Nat} {O : List rx_T} (hP : rx_PW c f s D G L) (hi : i ≤ p) (h : rx_J c D G L i p k st V O) :
    (rx_go c f s (nI p) k st V O).1 = [] ∧ rx_VO c D G L i p (rx_go c f s (nI p) k st V O).2.1 (rx_go c f s (nI p) k st V O).2.2 := by
  obtain ⟨k', h1, h2⟩ := rx_go_ind (c := c) (f := f) (s := s) (p := nI p) (fun k st V O => rx_J c D G L i p k st V O) (fun k e st V O h _ => rx_J_seen h) (fun k e st V O h hm => rx_J_new hP hi h hm) k st V O h
  refine ⟨?_, h1.1⟩
  rcases h2 with z | z
  · have := h1.2.2.2
    rw [z] at this
    exact List.length_eq_zero_iff.mp (by omega)
  · exact z
end
section
/-- a successor's label holds its depth -/
theorem rx_vs {c f s : Nat → Int32} {D : Nat → Nat} {G : Nat → Nat → Prop} {L pc d : Nat} (hP : rx_PW c f s D G L) (hpc : pc ≤ L) (hd : d ≤ D pc) : ∀ q, q ∈ rx_sc c f s pc d → q.1 ≤ L ∧ q.2 ≤ D q.1 := by
  intro q hq
  have h : rx_ok D (fun k g => G k g) L 0 0 pc d (fun _ => 0) := ⟨hpc, hd, fun g hg => ⟨Or.inr ⟨0, 0, Nat.le_refl _, Nat.le_refl _, Nat.le_refl _, rfl⟩, Or.inr ⟨0, Nat.le_refl _, Nat.le_refl _, rfl⟩⟩, fun g hg _ => ⟨0, Nat.le_refl _, Nat.le_refl _, rfl⟩⟩
  have := rx_ok_nx hP (Nat.le_refl _) h q hq
  exact ⟨this.1, this.2.1⟩
/-- a set of nodes closed under successors -/
def rx_cl (c f s : Nat → Int32) (S : Nat → Nat → Prop) : Prop := ∀ pc d, S pc d → ∀ q, q ∈ rx_sc c f s pc d → S q.1 q.2
theorem rx_go_snd {c f s : Nat → Int32} {p : Int32} {S : Nat → Nat → Prop} (hS : rx_cl c f s S) (k : Nat) (st : List rx_E) (V : List Nat) (O : List rx_T) (h1 : ∀ e, e ∈ st → S e.1 e.2.1) (h2 : ∀ t, t ∈ O → ∃ d, S t.1 d) :
    ∀ t, t ∈ (rx_go c f s p k st V O).2.2 → ∃ d, S t.1 d := by
  obtain ⟨k', y, _⟩ := rx_go_ind (c := c) (f := f) (s := s) (p := p) (fun _ st _ O => (∀ e, e ∈ st → S e.1 e.2.1) ∧ ∀ t, t ∈ O → ∃ d, S t.1 d)
    (fun k e st V O h _ => ⟨fun e' he => h.1 e' (List.mem_cons_of_mem _ he), h.2⟩)
    (fun k e st V O h _ => by
      refine ⟨fun e' he => ?_, fun t ht => ?_⟩
      · rcases List.mem_append.mp he with z | z
        · unfold rx_nx at z
          obtain ⟨q, hq, e2⟩ := List.mem_map.mp z
          rw [← e2]
          exact hS _ _ (h.1 e List.mem_cons_self) q hq
        · exact h.1 e' (List.mem_cons_of_mem _ z)
      · rcases List.mem_append.mp ht with z | z
        · exact h.2 t z
        · unfold rx_ot at z
          by_cases hs : c e.1 = 0 ∨ c e.1 = 4
          · rw [if_pos hs] at z
            rw [List.mem_singleton.mp z]
            exact ⟨e.2.1, h.1 e List.mem_cons_self⟩
          · rw [if_neg hs] at z
            exact absurd z List.not_mem_nil) k st V O ⟨h1, h2⟩
  exact y.2
/-- what is marked: its successors are marked or wait; a stop is among the threads -/
def rx_CI (c f s : Nat → Int32) (D : Nat → Nat) (L : Nat) (st : List rx_E) (V : List Nat) (O : List rx_T) : Prop :=
  ∀ pc d, pc ≤ L → d ≤ D pc → rx_mk c pc d ∈ V → ((c pc = 0 ∨ c pc = 4) → ∃ A, (pc, A) ∈ O) ∧ ∀ q, q ∈ rx_sc c f s pc d → rx_mk c q.1 q.2 ∈ V ∨ ∃ A, (q.1, q.2, A) ∈ st
theorem rx_CI_seen {c f s : Nat → Int32} {D : Nat → Nat} {L : Nat} {e : rx_E} {st : List rx_E} {V : List Nat} {O : List rx_T} (h : rx_CI c f s D L (e :: st) V O) (hm : rx_mk c e.1 e.2.1 ∈ V) : rx_CI c f s D L st V O := by
  intro pc d hpc hd hv
  obtain ⟨h1, h2⟩ := h pc d hpc hd hv
  refine ⟨h1, fun q hq => ?_⟩
  rcases h2 q hq with z | ⟨A, z⟩
  · exact Or.inl z
  · rcases List.mem_cons.mp z with y | y
    · rw [← y] at hm
      exact Or.inl hm
    · exact Or.inr ⟨A, y⟩
theorem rx_CI_new {c f s : Nat → Int32} {D : Nat → Nat} {G : Nat → Nat → Prop} {L : Nat} {p : Int32} {e : rx_E} {st : List rx_E} {V : List Nat} {O : List rx_T} (hP : rx_PW c f s D G L) (h : rx_CI c f s D L (e :: st) V O) (he1 : e.1 ≤ L) (he2 : e.2.1 ≤ D e.1) :
    rx_CI c f s D L (rx_nx c f s p e.1 e.2.1 e.2.2 ++ st) (rx_mk c e.1 e.2.1 :: V) (O ++ rx_ot c e.1 e.2.2) := by
  intro pc d hpc hd hv
  have hd16 : d ≤ 16 := Nat.le_trans hd (hP.2.1 pc hpc)
  have he16 : e.2.1 ≤ 16 := Nat.le_trans he2 (hP.2.1 e.1 he1)
  rcases List.mem_cons.mp hv with z | z
  · obtain ⟨e1, e2⟩ := rx_mk_inj hd16 he16 z
    refine ⟨fun hs => ⟨e.2.2, ?_⟩, fun q hq => ?_⟩
    · refine List.mem_append.mpr (Or.inr ?_)
      unfold rx_ot
      rw [e1] at hs
      rw [if_pos hs, e1]
      exact List.mem_singleton.mpr rfl
    · rcases e2 with y | y
      · rw [rx_sc_stop y] at hq
        exact absurd hq List.not_mem_nil
      · refine Or.inr ⟨rx_na c f p e.1 e.2.2, List.mem_append.mpr (Or.inl ?_)⟩
        unfold rx_nx
        rw [e1, y] at hq
        exact List.mem_map.mpr ⟨q, hq, rfl⟩
  · obtain ⟨h1, h2⟩ := h pc d hpc hd z
    refine ⟨fun hs => ?_, fun q hq => ?_⟩
    · obtain ⟨A, hA⟩ := h1 hs
      exact ⟨A, List.mem_append.mpr (Or.inl hA)⟩
    · rcases h2 q hq with y | ⟨A, y⟩
      · exact Or.inl (List.mem_cons_of_mem _ y)
      · rcases List.mem_cons.mp y with x | x
        · rw [← x]
          exact Or.inl List.mem_cons_self
        · exact Or.inr ⟨A, List.mem_append.mpr (Or.inr x)⟩
theorem rx_go_cmp {c f s : Nat → Int32} {D : Nat → Nat} {G : Nat → Nat → Prop} {L i p k : Nat} {st : List rx_E} {V : List Nat} {O : List rx_T} (hP : rx_PW c f s D G L) (hi : i ≤ p) (h : rx_J c D G L i p k st V O) (hC : rx_CI c f s D L st V O) :
    rx_CI c f s D L [] (rx_go c f s (nI p) k st V O).2.1 (rx_go c f s (nI p) k st V O).2.2 ∧ ∀ m, (m ∈ V ∨ ∃ e, e ∈ st ∧ rx_mk c e.1 e.2.1 = m) → m ∈ (rx_go c f s (nI p) k st V O).2.1 := by
  have h0 := (rx_go_J hP hi h).1
  obtain ⟨k', y, _⟩ := rx_go_ind (c := c) (f := f) (s := s) (p := nI p) (fun k st' V' O' => rx_J c D G L i p k st' V' O' ∧ rx_CI c f s D L st' V' O' ∧ ∀ m, (m ∈ V ∨ ∃ e, e ∈ st ∧ rx_mk c e.1 e.2.1 = m) → (m ∈ V' ∨ ∃ e, e ∈ st' ∧ rx_mk c e.1 e.2.1 = m))
    (fun k e st V O h hm => ⟨rx_J_seen h.1, rx_CI_seen h.2.1 hm, fun m hq => by
      rcases h.2.2 m hq with z | ⟨e', z1, z2⟩
      · exact Or.inl z
      · rcases List.mem_cons.mp z1 with y | y
        · rw [y] at z2
          rw [z2] at hm
          exact Or.inl hm
        · exact Or.inr ⟨e', y, z2⟩⟩)
    (fun k e st V O h hm => ⟨rx_J_new hP hi h.1 hm, rx_CI_new hP h.2.1 (h.1.2.1 e List.mem_cons_self).1 (h.1.2.1 e List.mem_cons_self).2.1, fun m hq => by
      rcases h.2.2 m hq with z | ⟨e', z1, z2⟩
      · exact Or.inl (List.mem_cons_of_mem _ z)
      · rcases List.mem_cons.mp z1 with y | y
        · rw [y] at z2
          rw [z2]
          exact Or.inl List.mem_cons_self
        · exact Or.inr ⟨e', List.mem_append.mpr (Or.inr y), z2⟩⟩) k st V O ⟨h, hC, fun m hm => hm⟩
  rw [h0] at y
  refine ⟨y.2.1, fun m hm => ?_⟩
  rcases y.2.2 m hm with z | ⟨e, z, _⟩
  · exact z
  · exact absurd z List.not_mem_nil
/-- the threads of a place -/
def rx_ths (c : Nat → Int32) (D : Nat → Nat) (G : Nat → Nat → Prop) (L i p : Nat) (ts : List rx_T) : Prop := ∀ t, t ∈ ts → rx_ok D G L i p t.1 0 t.2 ∧ (c t.1 = 0 ∨ c t.1 = 4)
theorem rx_ths_of {c : Nat → Int32} {D : Nat → Nat} {G : Nat → Nat → Prop} {L i p : Nat} {V : List Nat} {O : List rx_T} (h : rx_VO c D G L i p V O) : rx_ths c D G L i p O := fun t ht => ⟨(h.2.2.1 t ht).1, (h.2.2.1 t ht).2.1⟩
theorem rx_ok_rd {c f s : Nat → Int32} {D : Nat → Nat} {G : Nat → Nat → Prop} {L i p pc d : Nat} {A : Nat → Int32} (hP : rx_PW c f s D G L) (h : rx_ok D G L i p pc d A) (hs : c pc = 0 ∨ c pc = 4) (h4 : ¬ c pc = 4) : rx_ok D G L i (p + 1) (pc + 1) 0 A := by
  obtain ⟨h1, h2, h3, h5⟩ := h
  have h0 : c pc = 0 := hs.resolve_right h4
  have hl : pc < L := by
    rcases Nat.lt_or_ge pc L with z | z
    · exact z
    · have e : pc = L := by omega
      rw [e] at h4
      exact absurd hP.2.2.2.2 h4
  refine ⟨hl, Nat.zero_le _, rx_nt_mono h3, fun g hg hh => rx_set_mono (h5 g hg ?_)⟩
  rcases hP.2.2.2.1 pc hl with ⟨a, b⟩ | ⟨a, _⟩ | ⟨a, _⟩ | ⟨a, _⟩ | ⟨a, _⟩ | ⟨a, _⟩ | ⟨a, _⟩
  · exact b g hh
  all_goals (rw [h0] at a; exact absurd a (by decide))
theorem rx_sp_VO {c f s : Nat → Int32} {D : Nat → Nat} {G : Nat → Nat → Prop} {L i n p : Nat} {tx : Nat → Int32} {acc : Int32} (hP : rx_PW c f s D G L) (hi : i ≤ p) : ∀ (ts : List rx_T) (V : List Nat) (O : List rx_T), rx_ths c D G L i p ts → rx_VO c D G L i (p + 1) V O →
    rx_VO c D G L i (p + 1) (rx_sp c f s n tx p acc ts V O).1 (rx_sp c f s n tx p acc ts V O).2.1 := by
  intro ts
  induction ts with
  | nil => exact fun V O _ h => h
  | cons t ts ih =>
    intro V O ht h
    have ht' : rx_ths c D G L i p ts := fun x hx => ht x (List.mem_cons_of_mem _ hx)
    obtain ⟨o1, o2⟩ := ht t List.mem_cons_self
    rw [rx_sp]
    by_cases h4 : c t.1 = 4
    · rw [if_pos h4]
      by_cases ha : acc < 0 ∨ acc = nI p
      · rw [if_pos ha]
        exact h
      · rw [if_neg ha]
        exact ih V O ht' h
    · rw [if_neg h4]
      by_cases hr : p < n ∧ (f t.1 = 3 ∨ f t.1 = tx p)
      · rw [if_pos hr]
        exact ih _ _ ht' (rx_go_J hP (by omega) (rx_J_start h (rx_ok_rd hP o1 o2 h4))).2
      · rw [if_neg hr]
        exact ih V O ht' h
theorem rx_sp_fd {c f s : Nat → Int32} {n p : Nat} {tx : Nat → Int32} {acc : Int32} {A : Nat → Int32} : ∀ (ts : List rx_T) (V : List Nat) (O : List rx_T), (rx_sp c f s n tx p acc ts V O).2.2 = some A → ∃ t, t ∈ ts ∧ c t.1 = 4 ∧ t.2 = A ∧ (acc < 0 ∨ acc = nI p) := by
  intro ts
  induction ts with
  | nil => exact fun V O h => absurd h (fun z => rx_no z)
  | cons t ts ih =>
    intro V O h
    have K : ∀ V O, (rx_sp c f s n tx p acc ts V O).2.2 = some A → ∃ x, x ∈ t :: ts ∧ c x.1 = 4 ∧ x.2 = A ∧ (acc < 0 ∨ acc = nI p) := by
      intro V O h
      obtain ⟨x, h1, h2⟩ := ih V O h
      exact ⟨x, List.mem_cons_of_mem _ h1, h2⟩
    rw [rx_sp] at h
    by_cases h4 : c t.1 = 4
    · rw [if_pos h4] at h
      by_cases ha : acc < 0 ∨ acc = nI p
      · rw [if_pos ha] at h
        exact ⟨t, List.mem_cons_self, h4, Option.some.inj h, ha⟩
      · rw [if_neg ha] at h
        exact K _ _ h
    · rw [if_neg h4] at h
      by_cases hr : p < n ∧ (f t.1 = 3 ∨ f t.1 = tx p)
      · rw [if_pos hr] at h
        exact K _ _ h
      · rw [if_neg hr] at h
        exact K _ _ h
theorem rx_sp_no {c f s : Nat → Int32} {n p : Nat} {tx : Nat → Int32} {acc : Int32} (ha : acc < 0 ∨ acc = nI p) : ∀ (ts : List rx_T) (V : List Nat) (O : List rx_T), (rx_sp c f s n tx p acc ts V O).2.2 = none → ∀ t, t ∈ ts → ¬ c t.1 = 4 := by
  intro ts
  induction ts with
  | nil => exact fun V O _ t ht => absurd ht List.not_mem_nil
  | cons t ts ih =>
    intro V O h x hx
    rw [rx_sp] at h
    by_cases h4 : c t.1 = 4
    · rw [if_pos h4, if_pos ha] at h
      exact absurd h (fun z => rx_so z)
    · rw [if_neg h4] at h
      have hts : ∀ x, x ∈ ts → ¬ c x.1 = 4 := by
        by_cases hr : p < n ∧ (f t.1 = 3 ∨ f t.1 = tx p)
        · rw [if_pos hr] at h
          exact ih _ _ h
        · rw [if_neg hr] at h
          exact ih _ _ h
      rcases List.mem_cons.mp hx with e | z
      · rw [e]
        exact h4
      · exact hts x z
theorem rx_sp_uncut {c f s : Nat → Int32} {n p : Nat} {tx : Nat → Int32} {acc : Int32} (ts : List rx_T) (V : List Nat) (O : List rx_T) (h : (∀ t, t ∈ ts → ¬ c t.1 = 4) ∨ ¬ (acc < 0 ∨ acc = nI p)) : (rx_sp c f s n tx p acc ts V O).2.2 = none := by
  cases e : (rx_sp c f s n tx p acc ts V O).2.2 with
  | none => rfl
  | some A =>
    obtain ⟨t, h1, h2, _, h3⟩ := rx_sp_fd ts V O e
    rcases h with z | z
    · exact absurd h2 (z t h1)
    · exact absurd h3 z
theorem rx_sp_snd {c f s : Nat → Int32} {n p : Nat} {tx : Nat → Int32} {acc : Int32} {S : Nat → Nat → Prop} (hS : rx_cl c f s S) : ∀ (ts : List rx_T) (V : List Nat) (O : List rx_T), (∀ t, t ∈ ts → ¬ c t.1 = 4 → p < n ∧ (f t.1 = 3 ∨ f t.1 = tx p) → S (t.1 + 1) 0) → (∀ t, t ∈ O → ∃ d, S t.1 d) →
    ∀ t, t ∈ (rx_sp c f s n tx p acc ts V O).2.1 → ∃ d, S t.1 d := by
  intro ts
  induction ts with
  | nil => exact fun V O _ h => h
  | cons t ts ih =>
    intro V O ht h
    have ht' : ∀ x, x ∈ ts → ¬ c x.1 = 4 → p < n ∧ (f x.1 = 3 ∨ f x.1 = tx p) → S (x.1 + 1) 0 := fun x hx => ht x (List.mem_cons_of_mem _ hx)
    rw [rx_sp]
    by_cases h4 : c t.1 = 4
    · rw [if_pos h4]
      by_cases ha : acc < 0 ∨ acc = nI p
      · rw [if_pos ha]
        exact h
      · rw [if_neg ha]
        exact ih V O ht' h
    · rw [if_neg h4]
      by_cases hr : p < n ∧ (f t.1 = 3 ∨ f t.1 = tx p)
      · rw [if_pos hr]
        exact ih _ _ ht' (rx_go_snd hS 1300 _ V O (fun e he => by rw [List.mem_singleton.mp he]; exact ht t List.mem_cons_self h4 hr) h)
      · rw [if_neg hr]
        exact ih V O ht' h
theorem rx_sp_cmp {c f s : Nat → Int32} {D : Nat → Nat} {G : Nat → Nat → Prop} {L i n p : Nat} {tx : Nat → Int32} {acc : Int32} (hP : rx_PW c f s D G L) (hi : i ≤ p) : ∀ (ts : List rx_T) (V : List Nat) (O : List rx_T), rx_ths c D G L i p ts → rx_VO c D G L i (p + 1) V O → rx_CI c f s D L [] V O → (rx_sp c f s n tx p acc ts V O).2.2 = none →
    rx_CI c f s D L [] (rx_sp c f s n tx p acc ts V O).1 (rx_sp c f s n tx p acc ts V O).2.1 ∧ (∀ m, m ∈ V → m ∈ (rx_sp c f s n tx p acc ts V O).1) ∧ ∀ t, t ∈ ts → ¬ c t.1 = 4 → p < n ∧ (f t.1 = 3 ∨ f t.1 = tx p) → rx_mk c (t.1 + 1) 0 ∈ (rx_sp c f s n tx p acc ts V O).1 := by
  intro ts
  induction ts with
  | nil => exact fun V O _ _ h _ => ⟨h, fun m hm => hm, fun t ht => absurd ht List.not_mem_nil⟩
  | cons t ts ih =>
    intro V O ht h hC hn
    have ht' : rx_ths c D G L i p ts := fun x hx => ht x (List.mem_cons_of_mem _ hx)
    obtain ⟨o1, o2⟩ := ht t List.mem_cons_self
    rw [rx_sp] at hn ⊢
    by_cases h4 : c t.1 = 4
    · rw [if_pos h4] at hn ⊢
      by_cases ha : acc < 0 ∨ acc = nI p
      · rw [if_pos ha] at hn
        exact absurd hn (fun z => rx_so z)
      · rw [if_neg ha] at hn ⊢
        obtain ⟨y1, y2, y3⟩ := ih V O ht' h hC hn
        refine ⟨y1, y2, fun x hx => ?_⟩
        rcases List.mem_cons.mp hx with e | z
        · rw [e]
          exact fun q => absurd h4 q
        · exact y3 x z
    · rw [if_neg h4] at hn ⊢
      by_cases hr : p < n ∧ (f t.1 = 3 ∨ f t.1 = tx p)
      · rw [if_pos hr] at hn ⊢
        have hJ := rx_J_start h (rx_ok_rd hP o1 o2 h4)
        have hC' : rx_CI c f s D L [(t.1 + 1, 0, t.2)] V O := by
          intro pc d hpc hd hv
          obtain ⟨z1, z2⟩ := hC pc d hpc hd hv
          refine ⟨z1, fun q hq => ?_⟩
          rcases z2 q hq with y | ⟨A, y⟩
          · exact Or.inl y
          · exact absurd y List.not_mem_nil
        obtain ⟨g1, g2⟩ := rx_go_cmp hP (show i ≤ p + 1 by omega) hJ hC'
        obtain ⟨y1, y2, y3⟩ := ih _ _ ht' (rx_go_J hP (by omega) hJ).2 g1 hn
        refine ⟨y1, fun m hm => y2 m (g2 m (Or.inl hm)), fun x hx => ?_⟩
        rcases List.mem_cons.mp hx with e | z
        · rw [e]
          exact fun _ _ => y2 _ (g2 _ (Or.inr ⟨_, List.mem_singleton.mpr rfl, rfl⟩))
        · exact y3 x z
      · rw [if_neg hr] at hn ⊢
        obtain ⟨y1, y2, y3⟩ := ih V O ht' h hC hn
        refine ⟨y1, y2, fun x hx => ?_⟩
        rcases List.mem_cons.mp hx with e | z
        · rw [e]
          exact fun _ q => absurd q hr
        · exact y3 x z
/-- the threads' instructions of the first are among those of the second -/
def rx_sub (a b : List rx_T) : Prop := ∀ t, t ∈ a → ∃ B, (t.1, B) ∈ b
theorem rx_sim {c f s : Nat → Int32} {D : Nat → Nat} {G : Nat → Nat → Prop} {L i n p : Nat} {tx : Nat → Int32} {accA accB : Int32} {tsA tsB : List rx_T} (hP : rx_PW c f s D G L) (hi : i ≤ p) (hA : rx_ths c D G L i p tsA) (hB : rx_ths c D G L i p tsB) (hs : rx_sub tsA tsB)
    (hn : (rx_sp c f s n tx p accB tsB [] []).2.2 = none) : rx_sub (rx_sp c f s n tx p accA tsA [] []).2.1 (rx_sp c f s n tx p accB tsB [] []).2.1 := by
  obtain ⟨c1, _, c3⟩ := rx_sp_cmp hP hi tsB [] [] hB rx_VO_0 (fun pc d _ _ hv => absurd hv List.not_mem_nil) hn
  have vA := rx_sp_VO (n := n) (tx := tx) (acc := accA) hP hi tsA [] [] hA rx_VO_0
  have hS : rx_cl c f s (fun pc d => pc ≤ L ∧ d ≤ D pc ∧ rx_mk c pc d ∈ (rx_sp c f s n tx p accB tsB [] []).1) := by
    intro pc d h q hq
    obtain ⟨h1, h2, h3⟩ := h
    rcases (c1 pc d h1 h2 h3).2 q hq with z | ⟨A, z⟩
    · have hv := rx_vs hP h1 h2 q hq
      exact ⟨hv.1, hv.2, z⟩
    · exact absurd z List.not_mem_nil
  have hsnd := rx_sp_snd (n := n) (p := p) (tx := tx) (acc := accA) hS tsA [] [] (fun t ht h4 hr => by
    obtain ⟨B, hb⟩ := hs t ht
    have ho := rx_ok_rd hP (hA t ht).1 (hA t ht).2 h4
    exact ⟨ho.1, Nat.zero_le _, c3 (t.1, B) hb h4 hr⟩) (fun t ht => absurd ht List.not_mem_nil)
  intro t ht
  obtain ⟨d, h1, h2, h3⟩ := hsnd t ht
  exact (c1 t.1 d h1 h2 h3).1 (vA.2.2.1 t ht).2.1
theorem rx_run_keep {c f s : Nat → Int32} {n : Nat} {tx : Nat → Int32} {acc : Int32} : ∀ (k p : Nat) (ts : List rx_T) (r : Option (Nat × (Nat → Int32))), (∀ q, p ≤ q → q < p + k → ¬ (acc < 0 ∨ acc = nI q)) → rx_run c f s n tx acc k p ts r = r := by
  intro k
  induction k with
  | zero => exact fun p ts r _ => by cases ts <;> rfl
  | succ k ih =>
    intro p ts r h
    cases ts with
    | nil => rfl
    | cons t ts =>
      rw [rx_run, rx_sp_uncut _ _ _ (Or.inr (h p (Nat.le_refl _) (by omega)))]
      exact ih _ _ _ (fun q h1 h2 => h q (by omega) (by omega))
theorem rx_run_some {c f s : Nat → Int32} {n : Nat} {tx : Nat → Int32} {acc : Int32} : ∀ (k p : Nat) (ts : List rx_T) (x : Nat × (Nat → Int32)), ¬ rx_run c f s n tx acc k p ts (some x) = none := by
  intro k
  induction k with
  | zero => intro p ts x; cases ts <;> exact fun z => rx_so z
  | succ k ih =>
    intro p ts x
    cases ts with
    | nil => exact fun z => rx_so z
    | cons t ts =>
      rw [rx_run]
      cases (rx_sp c f s n tx p acc (t :: ts) [] []).2.2 with
      | none => exact ih _ _ _
      | some A => exact ih _ _ _
theorem rx_run_res {c f s : Nat → Int32} {D : Nat → Nat} {G : Nat → Nat → Prop} {L i n : Nat} {tx : Nat → Int32} {acc : Int32} {j : Nat} {A : Nat → Int32} (hP : rx_PW c f s D G L) : ∀ (k p : Nat) (ts : List rx_T) (r : Option (Nat × (Nat → Int32))), i ≤ p → rx_ths c D G L i p ts → rx_run c f s n tx acc k p ts r = some (j, A) →
    r = some (j, A) ∨ (p ≤ j ∧ j < p + k ∧ (acc < 0 ∨ acc = nI j) ∧ rx_nt i j A) := by
  intro k
  induction k with
  | zero => intro p ts r _ _ h; exact Or.inl (by cases ts <;> exact h)
  | succ k ih =>
    intro p ts r hi ht h
    cases ts with
    | nil => exact Or.inl h
    | cons t ts =>
      rw [rx_run] at h
      rcases ih (p + 1) _ _ (by omega) (rx_ths_of (rx_sp_VO hP hi _ _ _ ht rx_VO_0)) h with z | z
      · cases e : (rx_sp c f s n tx p acc (t :: ts) [] []).2.2 with
        | none =>
          rw [e] at z
          exact Or.inl z
        | some B =>
          rw [e] at z
          have z' : some (p, B) = some (j, A) := z
          have e1 : p = j := congrArg Prod.fst (Option.some.inj z')
          have e2 : B = A := congrArg Prod.snd (Option.some.inj z')
          obtain ⟨x, h1, h2, h3, h4⟩ := rx_sp_fd _ _ _ e
          refine Or.inr ⟨by omega, by omega, by rw [← e1]; exact h4, ?_⟩
          rw [← e1, ← e2, ← h3]
          exact (ht x h1).1.2.2.1
      · exact Or.inr ⟨by omega, by omega, z.2.2.1, z.2.2.2⟩
theorem rx_run_sp {c f s : Nat → Int32} {D : Nat → Nat} {G : Nat → Nat → Prop} {L i n : Nat} {tx : Nat → Int32} {j : Nat} {A : Nat → Int32} (hP : rx_PW c f s D G L) (hj : j < 1000) (accA : Int32) : ∀ (k p : Nat) (tsA tsB : List rx_T) (rA rB : Option (Nat × (Nat → Int32))), p + k < 2000 → i ≤ p → p ≤ j → rx_ths c D G L i p tsA → rx_ths c D G L i p tsB → rx_sub tsA tsB →
    (∀ j' A', rA = some (j', A') → j' < p) → rx_run c f s n tx accA k p tsA rA = some (j, A) → ∃ B, rx_run c f s n tx (nI j) k p tsB rB = some (j, B) := by
  intro k
  induction k with
  | zero =>
    intro p tsA tsB rA rB _ _ hpj _ _ _ hr h
    have h' : rA = some (j, A) := by cases tsA <;> exact h
    exact absurd (hr j A h') (by omega)
  | succ k ih =>
    intro p tsA tsB rA rB hpk hi hpj hA hB hs hr h
    cases tsA with
    | nil => exact absurd (hr j A h) (by omega)
    | cons a tsA =>
      cases tsB with
      | nil =>
        obtain ⟨B, hb⟩ := hs a List.mem_cons_self
        exact absurd hb List.not_mem_nil
      | cons b tsB =>
        rw [rx_run] at h ⊢
        have tA := rx_ths_of (rx_sp_VO (n := n) (tx := tx) (acc := accA) hP hi _ _ _ hA rx_VO_0)
        have tB := rx_ths_of (rx_sp_VO (n := n) (tx := tx) (acc := nI j) hP hi _ _ _ hB rx_VO_0)
        have hr' : ∀ j' A', rx_up p (rx_sp c f s n tx p accA (a :: tsA) [] []).2.2 rA = some (j', A') → j' < p + 1 := by
          intro j' A' e
          cases e2 : (rx_sp c f s n tx p accA (a :: tsA) [] []).2.2 with
          | none =>
            rw [e2] at e
            have := hr j' A' e
            omega
          | some X =>
            rw [e2] at e
            have e' : some (p, X) = some (j', A') := e
            have e1 : p = j' := congrArg Prod.fst (Option.some.inj e')
            omega
        rcases Nat.lt_or_ge p j with z | z
        · have hno : ¬ (nI j < 0 ∨ nI j = nI p) := by
            intro y
            rcases y with y | y
            · exact nI_pos (by omega) y
            · have := (nI_eq (by omega) (by omega)).mp y
              omega
          have hu : (rx_sp c f s n tx p (nI j) (b :: tsB) [] []).2.2 = none := rx_sp_uncut _ _ _ (Or.inr hno)
          exact ih (p + 1) _ _ _ _ (by omega) (by omega) (by omega) tA tB (rx_sim hP hi hA hB hs hu) hr' h
        · have ep : p = j := by omega
          subst ep
          cases e2 : (rx_sp c f s n tx p accA (a :: tsA) [] []).2.2 with
          | none =>
            rw [e2] at h
            rcases rx_run_res hP k (p + 1) _ _ (by omega) tA h with y | y
            · exact absurd (hr p A y) (by omega)
            · exact absurd y.1 (by omega)
          | some X =>
            obtain ⟨x, h1, h2, _, _⟩ := rx_sp_fd _ _ _ e2
            obtain ⟨B, hb⟩ := hs x h1
            cases e3 : (rx_sp c f s n tx p (nI p) (b :: tsB) [] []).2.2 with
            | none => exact absurd h2 (rx_sp_no (Or.inr rfl) _ _ _ e3 (x.1, B) hb)
            | some Y =>
              refine ⟨Y, ?_⟩
              exact rx_run_keep k (p + 1) _ _ (fun q h1 h2 y => by
                rcases y with y | y
                · exact nI_pos (by omega) y
                · have := (nI_eq (by omega) (by omega)).mp y
                  omega)
theorem rx_run_no {c f s : Nat → Int32} {D : Nat → Nat} {G : Nat → Nat → Prop} {L i n : Nat} {tx : Nat → Int32} (hP : rx_PW c f s D G L) (accA accB : Int32) (hb : accB < 0) : ∀ (k p : Nat) (tsA tsB : List rx_T), i ≤ p → rx_ths c D G L i p tsA → rx_ths c D G L i p tsB → rx_sub tsA tsB →
    rx_run c f s n tx accB k p tsB none = none → rx_run c f s n tx accA k p tsA none = none := by
  intro k
  induction k with
  | zero => intro p tsA tsB _ _ _ _ _; cases tsA <;> rfl
  | succ k ih =>
    intro p tsA tsB hi hA hB hs h
    cases tsA with
    | nil => rfl
    | cons a tsA =>
      cases tsB with
      | nil =>
        obtain ⟨B, hb⟩ := hs a List.mem_cons_self
        exact absurd hb List.not_mem_nil
      | cons b tsB =>
        rw [rx_run] at h ⊢
        have tA := rx_ths_of (rx_sp_VO (n := n) (tx := tx) (acc := accA) hP hi _ _ _ hA rx_VO_0)
        have tB := rx_ths_of (rx_sp_VO (n := n) (tx := tx) (acc := accB) hP hi _ _ _ hB rx_VO_0)
        cases e : (rx_sp c f s n tx p accB (b :: tsB) [] []).2.2 with
        | some X =>
          rw [e] at h
          exact absurd h (rx_run_some _ _ _ _)
        | none =>
          have h4 := rx_sp_no (Or.inl hb) _ _ _ e
          have e2 : (rx_sp c f s n tx p accA (a :: tsA) [] []).2.2 = none := rx_sp_uncut _ _ _ (Or.inl (fun t ht => by
            obtain ⟨B, hb⟩ := hs t ht
            exact h4 (t.1, B) hb))
          have hs' := rx_sim (accA := accA) hP hi hA hB hs e
          rw [e] at h
          rw [e2]
          exact ih (p + 1) _ _ (by omega) tA tB hs' h
theorem rx_ok_0 {c f s : Nat → Int32} {D : Nat → Nat} {G : Nat → Nat → Prop} {L i : Nat} (hP : rx_PW c f s D G L) : rx_ok D G L i i 0 0 (fun _ => -4) :=
  ⟨Nat.zero_le _, Nat.zero_le _, fun g hg => ⟨Or.inl rfl, Or.inl rfl⟩, fun g hg h => absurd h (hP.2.2.1 g)⟩
theorem rx_ths_0 {c f s : Nat → Int32} {D : Nat → Nat} {G : Nat → Nat → Prop} {L i : Nat} (hP : rx_PW c f s D G L) : rx_ths c D G L i i (rx_go c f s (nI i) 1300 [(0, 0, fun _ => -4)] [] []).2.2 :=
  rx_ths_of (rx_go_J hP (Nat.le_refl _) (rx_J_start rx_VO_0 (rx_ok_0 hP))).2
theorem rx_sub_refl (ts : List rx_T) : rx_sub ts ts := fun t ht => ⟨t.2, ht⟩
/-- what a search finds: its end, its notes -/
theorem rx_se_ok {c f s : Nat → Int32} {D : Nat → Nat} {G : Nat → Nat → Prop} {L i n : Nat} {tx : Nat → Int32} {acc : Int32} {j : Nat} {A : Nat → Int32} (hP : rx_PW c f s D G L) (hi : i ≤ n) (h : rx_se c f s n tx i acc = some (j, A)) : i ≤ j ∧ j ≤ n ∧ (acc < 0 ∨ acc = nI j) ∧ rx_nt i j A := by
  rcases rx_run_res hP _ i _ _ (Nat.le_refl _) (rx_ths_0 hP) h with z | z
  · exact absurd z (fun y => rx_no y)
  · exact ⟨z.1, by omega, z.2.2.1, z.2.2.2⟩
/-- a find's end is an end that spans accepts -/
theorem rx_se_sp {c f s : Nat → Int32} {D : Nat → Nat} {G : Nat → Nat → Prop} {L i n : Nat} {tx : Nat → Int32} {acc : Int32} {j : Nat} {A : Nat → Int32} (hP : rx_PW c f s D G L) (hn : n ≤ 10) (hi : i ≤ n) (h : rx_se c f s n tx i acc = some (j, A)) : ∃ B, rx_se c f s n tx i (nI j) = some (j, B) := by
  have ho := rx_se_ok hP hi h
  exact rx_run_sp hP (by omega) acc _ i _ _ _ _ (by omega) (Nat.le_refl _) ho.1 (rx_ths_0 hP) (rx_ths_0 hP) (rx_sub_refl _) (fun j' A' e => absurd e (fun y => rx_no y)) h
/-- where no end is found none is accepted -/
theorem rx_se_no {c f s : Nat → Int32} {D : Nat → Nat} {G : Nat → Nat → Prop} {L i n : Nat} {tx : Nat → Int32} {acc : Int32} (hP : rx_PW c f s D G L) (h : rx_se c f s n tx i (-1) = none) : rx_se c f s n tx i acc = none :=
  rx_run_no hP acc (-1) (by decide) _ i _ _ (Nat.le_refl _) (rx_ths_0 hP) (rx_ths_0 hP) (rx_sub_refl _) h
end
section
/-! the pictures of the arrays -/
theorem rx_ix (w i : Nat) : nI w * 6 + nI i = nI (w * 6 + i) := by
  rw [show (6 : Int32) = nI 6 from rfl, pk_mul, nI_add]
/-- what waits: instructions, idle rounds, notes, the last one on top -/
def rx_ms (a b x : Nat → Int32) : List rx_E → Prop
  | [] => True
  | e :: st => a st.length = nI e.1 ∧ b st.length = nI e.2.1 ∧ (∀ k, k < 6 → x (st.length * 6 + k) = e.2.2 k) ∧ rx_ms a b x st
theorem rx_ms_fr {a b x a' b' x' : Nat → Int32} : ∀ (st : List rx_E), (∀ j, j < st.length → a' j = a j) → (∀ j, j < st.length → b' j = b j) → (∀ j, j < st.length * 6 → x' j = x j) → rx_ms a b x st → rx_ms a' b' x' st := by
  intro st
  induction st with
  | nil => exact fun _ _ _ _ => trivial
  | cons e st ih =>
    intro h1 h2 h3 h
    rw [List.length_cons] at h1 h2 h3
    obtain ⟨y1, y2, y3, y4⟩ := h
    refine ⟨?_, ?_, fun k hk => ?_, ih (fun j hj => h1 j (by omega)) (fun j hj => h2 j (by omega)) (fun j hj => h3 j (by omega)) y4⟩
    · rw [h1 _ (by omega)]
      exact y1
    · rw [h2 _ (by omega)]
      exact y2
    · rw [h3 _ (by omega)]
      exact y3 k hk
theorem rx_ms_push {a b x x' A : Nat → Int32} {st : List rx_E} {pc d : Nat} (h : rx_ms a b x st) (h1 : ∀ j, j < st.length * 6 → x' j = x j) (h2 : ∀ k, k < 6 → x' (st.length * 6 + k) = A k) : rx_ms (upd a st.length (nI pc)) (upd b st.length (nI d)) x' ((pc, d, A) :: st) :=
  ⟨pk_us, pk_us, h2, rx_ms_fr st (fun j hj => pk_un (by omega)) (fun j hj => pk_un (by omega)) h1 h⟩
/-- threads: instructions and notes -/
def rx_mt (a x : Nat → Int32) (O : List rx_T) : Prop := ∀ i t, O[i]? = some t → a i = nI t.1 ∧ ∀ k, k < 6 → x (i * 6 + k) = t.2 k
theorem rx_mt_0 {a x : Nat → Int32} : rx_mt a x [] := fun i t h => absurd h (by rw [List.getElem?_nil]; exact fun z => rx_no z)
theorem rx_mt_fr {a x a' x' : Nat → Int32} {O : List rx_T} (h1 : ∀ j, j < O.length → a' j = a j) (h2 : ∀ j, j < O.length * 6 → x' j = x j) (h : rx_mt a x O) : rx_mt a' x' O := by
  intro i t e
  have hi : i < O.length := by
    rcases Nat.lt_or_ge i O.length with z | z
    · exact z
    · rw [List.getElem?_eq_none z] at e
      exact absurd e (fun z => rx_no z)
  obtain ⟨y1, y2⟩ := h i t e
  refine ⟨?_, fun k hk => ?_⟩
  · rw [h1 i hi]
    exact y1
  · rw [h2 _ (by omega)]
    exact y2 k hk
theorem rx_mt_add {a x x' A : Nat → Int32} {O : List rx_T} {pc : Nat} (h : rx_mt a x O) (h1 : ∀ j, j < O.length * 6 → x' j = x j) (h2 : ∀ k, k < 6 → x' (O.length * 6 + k) = A k) : rx_mt (upd a O.length (nI pc)) x' (O ++ [(pc, A)]) := by
  intro i t e
  rcases Nat.lt_or_ge i O.length with z | z
  · rw [List.getElem?_append_left z] at e
    exact rx_mt_fr (fun j hj => pk_un (by omega)) h1 h i t e
  · rw [List.getElem?_append_right z] at e
    have hi : i - O.length = 0 := by
      rcases Nat.eq_zero_or_pos (i - O.length) with y | y
      · exact y
      · rw [List.getElem?_eq_none (by show 1 ≤ i - O.length; omega)] at e
        exact absurd e (fun z => rx_no z)
    rw [hi] at e
    have et : (pc, A) = t := Option.some.inj e
    have ei : i = O.length := by omega
    rw [ei, ← et]
    exact ⟨pk_us, h2⟩
/-- the marks -/
def rx_mv (a : Nat → Int32) (V : List Nat) : Prop := ∀ m, m < 1088 → a m = if m ∈ V then 1 else 0
theorem rx_mv_add {a : Nat → Int32} {V : List Nat} {m : Nat} (h : rx_mv a V) : rx_mv (upd a m 1) (m :: V) := by
  intro q hq
  by_cases e : q = m
  · rw [e, pk_us, if_pos List.mem_cons_self]
  · rw [pk_un e, h q hq]
    by_cases hv : q ∈ V
    · rw [if_pos hv, if_pos (List.mem_cons_of_mem _ hv)]
    · rw [if_neg hv, if_neg (fun z => (List.mem_cons.mp z).elim e hv)]
section
variable (n : Nat) (c f s tx : Nat → Int32)
/-- what a search never changes -/
def rx_K (u : St1) : Prop := match u with
  | (hh, mm, ll, zz, nn, cc, dd, ww, ee, b1, b2, b3, b4, b5, b6, b7, b8, b9, b10, b11, b12, b13, b14, b15, b16, b17, b18, b19) => nn = nI n ∧ c = b6 ∧ f = b7 ∧ s = b8 ∧ tx = b9
/-- a state while threads are followed -/
def rx_F (C : Int32) (t10 t11 : Nat → Int32) (E : Int32) (t19 : Nat → Int32) (st : List rx_E) (V : List Nat) (O : List rx_T) (u : St1) : Prop := match u with
  | (hh, mm, ll, zz, nn, cc, dd, ww, ee, b1, b2, b3, b4, b5, b6, b7, b8, b9, b10, b11, b12, b13, b14, b15, b16, b17, b18, b19) => (nn = nI n ∧ c = b6 ∧ f = b7 ∧ s = b8 ∧ tx = b9) ∧ (C = cc ∧ t10 = b10 ∧ t11 = b11 ∧ E = ee ∧ t19 = b19) ∧ (ww = nI st.length ∧ rx_ms b15 b16 b17 st) ∧ rx_mv b14 V ∧ (dd = nI O.length ∧ rx_mt b12 b13 O)
/-- the notes at hand -/
def rx_at (A : Nat → Int32) (u : St1) : Prop := match u with
  | (hh, mm, ll, zz, nn, cc, dd, ww, ee, b1, b2, b3, b4, b5, b6, b7, b8, b9, b10, b11, b12, b13, b14, b15, b16, b17, b18, b19) => ∀ k, k < 6 → b18 k = A k
/-- what was found -/
def rx_fd (r : Option (Nat × (Nat → Int32))) (E : Int32) (b19 : Nat → Int32) : Prop := match r with
  | none => E = -4
  | some x => E = nI x.1 ∧ ∀ k, k < 6 → b19 k = x.2 k
def rx_R (r : Option (Nat × (Nat → Int32))) (u : St1) : Prop := match u with
  | (hh, mm, ll, zz, nn, cc, dd, ww, ee, b1, b2, b3, b4, b5, b6, b7, b8, b9, b10, b11, b12, b13, b14, b15, b16, b17, b18, b19) => rx_fd r ee b19
/-- a state between two places -/
def rx_H (ts : List rx_T) (r : Option (Nat × (Nat → Int32))) (u : St1) : Prop := match u with
  | (hh, mm, ll, zz, nn, cc, dd, ww, ee, b1, b2, b3, b4, b5, b6, b7, b8, b9, b10, b11, b12, b13, b14, b15, b16, b17, b18, b19) => (nn = nI n ∧ c = b6 ∧ f = b7 ∧ s = b8 ∧ tx = b9) ∧ (cc = nI ts.length ∧ rx_mt b10 b11 ts) ∧ ww = nI 0 ∧ rx_fd r ee b19
end
end
section
section
variable {n : Nat} {c f s tx : Nat → Int32} {C E : Int32} {t10 t11 t19 : Nat → Int32}
theorem rx_push0 {post : St1 → Prop} {hh mm ll zz nn cc dd ww ee : Int32} {b1 b2 b3 b4 b5 b6 b7 b8 b9 b10 b11 b12 b13 b14 b15 b16 b17 b18 b19 : Nat → Int32} {w : Nat} {p0 p1 : Int32} (hw : w < 640) (hww : ww = nI w)
    (H : ∀ x17, (∀ j, j < w * 6 → x17 j = b17 j) → (∀ k, k < 6 → x17 (w * 6 + k) = b18 k) → post (hh, mm, ll, zz, nn, cc, dd, nI (w + 1), ee, b1, b2, b3, b4, b5, b6, b7, b8, b9, b10, b11, b12, b13, b14, upd b15 w p0, upd b16 w p1, x17, b18, b19)) : wpX_push post (hh, mm, ll, zz, nn, cc, dd, ww, ee, b1, b2, b3, b4, b5, b6, b7, b8, b9, b10, b11, b12, b13, b14, b15, b16, b17, b18, b19) p0 p1 := by
  subst hww
  refine ⟨pk_in w 640 hw, nm_r (e' := upd b15 w p0) (by rw [nI_clamp (by omega)]) ⟨pk_in w 640 hw, nm_r (e' := upd b16 w p1) (by rw [nI_clamp (by omega)]) ?_⟩⟩
  refine pk_loop (fun k i x => wX_push_22 post hh mm ll zz nn cc dd (nI w) ee k (nI i) b1 b2 b3 b4 b5 b6 b7 b8 b9 b10 b11 b12 b13 b14 (upd b15 w p0) (upd b16 w p1) x b18 b19) (fun i x => (∀ j, j < w * 6 → x j = b17 j) ∧ ∀ k, k < i → x (w * 6 + k) = b18 k) 6 0 b17 (by omega) ⟨fun j _ => rfl, fun k hk => absurd hk (by omega)⟩ ?_ ?_
  · intro k x h
    exact pk_le 6 6 (fun _ => nm_r (nI_1 w) (H x h.1 h.2)) (fun z => absurd z (by omega))
  · intro k i x hi h hw'
    refine pk_le 6 i (fun z => absurd z (by omega)) (fun _ => ⟨pk_in i 6 hi, pk_in (w * 6 + i) 3840 (by omega) (rx_ix w i), ?_⟩)
    refine nm_r (e' := upd x (w * 6 + i) (b18 i)) (by rw [rx_ix, nI_clamp (by omega), nI_clamp (by omega)]) (nm_r (nI_1 i) (hw' _ ⟨fun j hj => ?_, fun q hq => ?_⟩))
    · rw [pk_un (by omega)]
      exact h.1 j hj
    · by_cases e : q = i
      · rw [e, pk_us]
      · rw [pk_un (by omega)]
        exact h.2 q (by omega)
theorem rx_pushF {post : St1 → Prop} {u : St1} {st : List rx_E} {V : List Nat} {O : List rx_T} {pc d : Nat} {A : Nat → Int32} {p0 p1 : Int32} (hF : rx_F n c f s tx C t10 t11 E t19 st V O u) (hA : rx_at A u) (hw : st.length < 640) (h0 : p0 = nI pc) (h1 : p1 = nI d)
    (H : ∀ u', rx_F n c f s tx C t10 t11 E t19 ((pc, d, A) :: st) V O u' → rx_at A u' → post u') : wpX_push post u p0 p1 := by
  obtain ⟨hh, mm, ll, zz, nn, cc, dd, ww, ee, b1, b2, b3, b4, b5, b6, b7, b8, b9, b10, b11, b12, b13, b14, b15, b16, b17, b18, b19⟩ := u
  obtain ⟨k1, k2, ⟨k3, k4⟩, k5, k6⟩ := hF
  subst h0 h1
  have hA' : ∀ k, k < 6 → b18 k = A k := hA
  refine rx_push0 hw k3 (fun x17 y1 y2 => H _ ?_ hA')
  exact ⟨k1, k2, ⟨rfl, rx_ms_push k4 y1 (fun k hk => (y2 k hk).trans (hA' k hk))⟩, k5, k6⟩
/-- following an instruction -/
theorem rx_goOnF {D : Nat → Nat} {G : Nat → Nat → Prop} {L : Nat} {post : St1 → Prop} {u : St1} {st : List rx_E} {V : List Nat} {O : List rx_T} {pc d p : Nat} {A : Nat → Int32} (hP : rx_PW c f s D G L) (hpc : pc ≤ L) (hd : d ≤ 16) (hF : rx_F n c f s tx C t10 t11 E t19 st V O u) (hA : rx_at A u) (hw : st.length + 2 ≤ 640) (hO : O.length < 64)
    (H : ∀ u', rx_F n c f s tx C t10 t11 E t19 (rx_nx c f s (nI p) pc d A ++ st) V (O ++ rx_ot c pc A) u' → post u') : wpX_goOn post u (nI pc) (nI p) (nI d) := by
  have hL : L ≤ 32 := hP.1
  obtain ⟨hh, mm, ll, zz, nn, cc, dd, ww, ee, b1, b2, b3, b4, b5, b6, b7, b8, b9, b10, b11, b12, b13, b14, b15, b16, b17, b18, b19⟩ := u
  have hF' := hF
  obtain ⟨⟨k1, k2, k3, k4, k5⟩, k6, ⟨k7, k8⟩, k9, k10, k11⟩ := hF'
  subst k2 k3 k4 k5
  have q64 : vp_in (nI pc) 64 := pk_in pc 64 (by omega)
  have ecl : (nI pc).toNatClampNeg = pc := nI_clamp (by omega)
  refine ⟨q64, nm_r (e' := c pc) (by rw [ecl]) ?_⟩
  by_cases hs : c pc = 0 ∨ c pc = 4
  · have n1 : ¬ c pc = 1 := fun z => by rw [z] at hs; exact absurd hs (by decide)
    have n2 : ¬ c pc = 2 := fun z => by rw [z] at hs; exact absurd hs (by decide)
    have n3 : ¬ c pc = 3 := fun z => by rw [z] at hs; exact absurd hs (by decide)
    have n5 : ¬ c pc = 5 := fun z => by rw [z] at hs; exact absurd hs (by decide)
    have n6 : ¬ c pc = 6 := fun z => by rw [z] at hs; exact absurd hs (by decide)
    have n7 : ¬ c pc = 7 := fun z => by rw [z] at hs; exact absurd hs (by decide)
    refine br_f n1 (br_f n5 (br_f n6 (br_f n2 (br_f n7 (br_f n7 (br_f n3 ?_))))))
    subst k10
    refine ⟨pk_in O.length 64 hO, nm_r (e' := upd b12 O.length (nI pc)) (by rw [nI_clamp (by omega)]) ?_⟩
    refine pk_loop (fun k i x => wX_goOn_228 post hh mm ll zz nn cc (nI O.length) ww ee k (nI i) b1 b2 b3 b4 b5 c f s tx b10 b11 (upd b12 O.length (nI pc)) x b14 b15 b16 b17 b18 b19) (fun i x => (∀ j, j < O.length * 6 → x j = b13 j) ∧ ∀ k, k < i → x (O.length * 6 + k) = b18 k) 6 0 b13 (by omega) ⟨fun j _ => rfl, fun k hk => absurd hk (by omega)⟩ ?_ ?_
    · intro k x h
      refine pk_le 6 6 (fun _ => nm_r (nI_1 O.length) (H _ ?_)) (fun z => absurd z (by omega))
      have e1 : rx_nx c f s (nI p) pc d A = [] := by
        unfold rx_nx
        rw [rx_sc_stop hs]
        rfl
      have e2 : rx_ot c pc A = [(pc, A)] := by
        unfold rx_ot
        rw [if_pos hs]
      rw [e1, e2]
      exact ⟨⟨k1, rfl, rfl, rfl, rfl⟩, k6, ⟨k7, k8⟩, k9, by rw [List.length_append]; rfl, rx_mt_add k11 h.1 (fun k hk => (h.2 k hk).trans (hA k hk))⟩
    · intro k i x hi h hw'
      refine pk_le 6 i (fun z => absurd z (by omega)) (fun _ => ⟨pk_in i 6 hi, pk_in (O.length * 6 + i) 384 (by omega) (rx_ix _ i), ?_⟩)
      refine nm_r (e' := upd x (O.length * 6 + i) (b18 i)) (by rw [rx_ix, nI_clamp (by omega), nI_clamp (by omega)]) (nm_r (nI_1 i) (hw' _ ⟨fun j hj => ?_, fun q hq => ?_⟩))
      · rw [pk_un (by omega)]
        exact h.1 j hj
      · by_cases e : q = i
        · rw [e, pk_us]
        · rw [pk_un (by omega)]
          exact h.2 q (by omega)
  · have e2 : rx_ot c pc A = [] := by
      unfold rx_ot
      rw [if_neg hs]
    rw [e2, List.append_nil] at H
    obtain ⟨hl, hnd⟩ := rx_nd_c hP hpc hs
    have ena : ¬ c pc = 3 → rx_na c f (nI p) pc A = A := fun z => by
      unfold rx_na
      rw [if_neg z]
    have d1 : nI d + 1 = nI (d + 1) := nI_1 d
    rcases hnd with ⟨a, b⟩ | ⟨a, b, b'⟩ | ⟨a, b⟩ | ⟨a, b, g, hg, b'⟩ | ⟨a, b, b'⟩ | ⟨a, b, b'⟩ | ⟨a, b⟩
    · exact absurd (Or.inl a) hs
    · have ex : rx_nx c f s (nI p) pc d A = [(rx_tg f pc, d, A), (rx_tg s pc, d, A)] := by
        unfold rx_nx rx_sc
        rw [if_pos a, ena (by rw [a]; decide)]
        rfl
      rw [ex] at H
      obtain ⟨_, _, _, t1⟩ := rx_tg_ed hL b
      obtain ⟨_, _, _, t2⟩ := rx_tg_ed hL b'
      refine br_t a ⟨q64, rx_pushF hF hA (by omega) (by rw [ecl]; exact t2) rfl ?_⟩
      rintro ⟨hhx, mmx, llx, zzx, nnx, ccx, ddx, wwx, eex, b1x, b2x, b3x, b4x, b5x, b6x, b7x, b8x, b9x, b10x, b11x, b12x, b13x, b14x, b15x, b16x, b17x, b18x, b19x⟩ hF1 hA1
      refine ⟨q64, rx_pushF hF1 hA1 (by show st.length + 1 < 640; omega) (by rw [ecl, ← hF1.1.2.2.1]; exact t1) rfl ?_⟩
      rintro ⟨hhy, mmy, lly, zzy, nny, ccy, ddy, wwy, eey, b1y, b2y, b3y, b4y, b5y, b6y, b7y, b8y, b9y, b10y, b11y, b12y, b13y, b14y, b15y, b16y, b17y, b18y, b19y⟩ hF2 hA2
      exact H _ hF2
    · have ex : rx_nx c f s (nI p) pc d A = [(rx_tg f pc, d, A)] := by
        unfold rx_nx rx_sc
        rw [if_neg (by rw [a]; decide), if_neg (by rw [a]; decide), if_neg (by rw [a]; decide), if_pos a, ena (by rw [a]; decide)]
        rfl
      rw [ex] at H
      obtain ⟨_, _, _, t1⟩ := rx_tg_ed hL b
      refine br_f (by rw [a]; decide) (br_f (by rw [a]; decide) (br_f (by rw [a]; decide) (br_t a ?_)))
      refine ⟨q64, rx_pushF hF hA (by omega) (by rw [ecl]; exact t1) rfl ?_⟩
      rintro ⟨hhx, mmx, llx, zzx, nnx, ccx, ddx, wwx, eex, b1x, b2x, b3x, b4x, b5x, b6x, b7x, b8x, b9x, b10x, b11x, b12x, b13x, b14x, b15x, b16x, b17x, b18x, b19x⟩ hF1 hA1
      exact H _ hF1
    · have ex : rx_nx c f s (nI p) pc d A = [(pc + 1, d, rx_note A (f pc) (nI p))] := by
        have en : rx_na c f (nI p) pc A = rx_note A (f pc) (nI p) := by
          unfold rx_na
          rw [if_pos a]
        unfold rx_nx rx_sc
        rw [if_neg (by rw [a]; decide), if_neg (by rw [a]; decide), if_neg (by rw [a]; decide), if_neg (by rw [a]; decide), if_neg (by rw [a]; decide), if_pos a, en]
        rfl
      rw [ex] at H
      refine br_f (by rw [a]; decide) (br_f (by rw [a]; decide) (br_f (by rw [a]; decide) (br_f (by rw [a]; decide) (br_f (by rw [a]; decide) (br_f (by rw [a]; decide) (br_t a ⟨q64, nm_r (e' := f pc) (by rw [ecl]) ?_⟩))))))
      have fin : ∀ (v z0 : Int32) (j : Nat), v = nI j → j < 6 → (∀ k, k < 6 → upd b18 j z0 k = rx_note A (f pc) (nI p) k) → wX_goOn_203 post (nI pc) (nI d) z0 v hh mm ll zz nn cc dd ww ee b1 b2 b3 b4 b5 c f s tx b10 b11 b12 b13 b14 b15 b16 b17 b18 b19 := by
        intro v z0 j hv hj hk
        subst hv
        refine ⟨pk_in j 6 hj, nm_r (e' := upd b18 j z0) (by rw [nI_clamp (by omega)]) ?_⟩
        refine rx_pushF (A := rx_note A (f pc) (nI p)) (st := st) (V := V) (O := O) (u := (hh, mm, ll, zz, nn, cc, dd, ww, ee, b1, b2, b3, b4, b5, c, f, s, tx, b10, b11, b12, b13, b14, b15, b16, b17, upd b18 j z0, b19)) ⟨⟨k1, rfl, rfl, rfl, rfl⟩, k6, ⟨k7, k8⟩, k9, k10, k11⟩ hk (by omega) (nI_1 pc) rfl ?_
        rintro ⟨hhx, mmx, llx, zzx, nnx, ccx, ddx, wwx, eex, b1x, b2x, b3x, b4x, b5x, b6x, b7x, b8x, b9x, b10x, b11x, b12x, b13x, b14x, b15x, b16x, b17x, b18x, b19x⟩ hF1 hA1
        exact H _ hF1
      rcases b' with ⟨w1, w2⟩ | ⟨w1, w2, w3⟩
      · refine br_f (by rw [w1]; exact nI_nlt (a := 3 + g) (b := 3) (by omega) (by omega)) (fin _ _ (3 + g) w1 (by omega) (fun k hk => ?_))
        rw [w1, rx_note_b hg]
        by_cases e : k = 3 + g
        · rw [e, pk_us, pk_us]
        · rw [pk_un e, pk_un e]
          exact hA k hk
      · have e3 : nI g + 3 = nI (3 + g) := by rw [Nat.add_comm, ← nI_add]; rfl
        refine br_t (by rw [w1]; exact nI_lt (a := g) (b := 3) (by omega) (by omega)) ⟨pk_in (3 + g) 6 (by omega) (by rw [w1]; exact e3), fin _ _ g w1 (by omega) (fun k hk => ?_)⟩
        rw [w1, rx_note_e hg, e3, nI_clamp (by omega)]
        by_cases e : k = g
        · rw [e, pk_us, pk_us, hA (3 + g) (by omega)]
        · rw [pk_un e, pk_un e]
          exact hA k hk
    · have ex : rx_nx c f s (nI p) pc d A = [(rx_tg f pc, d + 1, A), (rx_tg s pc, d, A)] := by
        unfold rx_nx rx_sc
        rw [if_neg (by rw [a]; decide), if_pos a, ena (by rw [a]; decide)]
        rfl
      rw [ex] at H
      obtain ⟨_, _, _, t1⟩ := rx_tg_ed hL b
      obtain ⟨_, _, _, t2⟩ := rx_tg_ed hL b'
      refine br_f (by rw [a]; decide) (br_t a ⟨q64, rx_pushF hF hA (by omega) (by rw [ecl]; exact t2) rfl ?_⟩)
      rintro ⟨hhx, mmx, llx, zzx, nnx, ccx, ddx, wwx, eex, b1x, b2x, b3x, b4x, b5x, b6x, b7x, b8x, b9x, b10x, b11x, b12x, b13x, b14x, b15x, b16x, b17x, b18x, b19x⟩ hF1 hA1
      refine ⟨q64, rx_pushF hF1 hA1 (by show st.length + 1 < 640; omega) (by rw [ecl, ← hF1.1.2.2.1]; exact t1) d1 ?_⟩
      rintro ⟨hhy, mmy, lly, zzy, nny, ccy, ddy, wwy, eey, b1y, b2y, b3y, b4y, b5y, b6y, b7y, b8y, b9y, b10y, b11y, b12y, b13y, b14y, b15y, b16y, b17y, b18y, b19y⟩ hF2 hA2
      exact H _ hF2
    · have ex : rx_nx c f s (nI p) pc d A = [(rx_tg s pc, d, A), (rx_tg f pc, d + 1, A)] := by
        unfold rx_nx rx_sc
        rw [if_neg (by rw [a]; decide), if_neg (by rw [a]; decide), if_pos a, ena (by rw [a]; decide)]
        rfl
      rw [ex] at H
      obtain ⟨_, _, _, t1⟩ := rx_tg_ed hL b
      obtain ⟨_, _, _, t2⟩ := rx_tg_ed hL b'
      refine br_f (by rw [a]; decide) (br_f (by rw [a]; decide) (br_t a ⟨q64, rx_pushF hF hA (by omega) (by rw [ecl]; exact t1) d1 ?_⟩))
      rintro ⟨hhx, mmx, llx, zzx, nnx, ccx, ddx, wwx, eex, b1x, b2x, b3x, b4x, b5x, b6x, b7x, b8x, b9x, b10x, b11x, b12x, b13x, b14x, b15x, b16x, b17x, b18x, b19x⟩ hF1 hA1
      refine ⟨q64, rx_pushF hF1 hA1 (by show st.length + 1 < 640; omega) (by rw [ecl, ← hF1.1.2.2.2.1]; exact t2) rfl ?_⟩
      rintro ⟨hhy, mmy, lly, zzy, nny, ccy, ddy, wwy, eey, b1y, b2y, b3y, b4y, b5y, b6y, b7y, b8y, b9y, b10y, b11y, b12y, b13y, b14y, b15y, b16y, b17y, b18y, b19y⟩ hF2 hA2
      exact H _ hF2
    · obtain ⟨_, _, _, t1⟩ := rx_tg_ed hL b
      refine br_f (by rw [a]; decide) (br_f (by rw [a]; decide) (br_f (by rw [a]; decide) (br_f (by rw [a]; decide) (br_t a ?_))))
      by_cases h0 : d = 0
      · have ex : rx_nx c f s (nI p) pc d A = [(rx_tg f pc, d, A)] := by
          unfold rx_nx rx_sc
          rw [if_neg (by rw [a]; decide), if_neg (by rw [a]; decide), if_neg (by rw [a]; decide), if_neg (by rw [a]; decide), if_pos a, if_pos h0, ena (by rw [a]; decide)]
          rfl
        rw [ex] at H
        refine br_t (by rw [h0]; rfl) ⟨q64, rx_pushF hF hA (by omega) (by rw [ecl]; exact t1) rfl ?_⟩
        rintro ⟨hhx, mmx, llx, zzx, nnx, ccx, ddx, wwx, eex, b1x, b2x, b3x, b4x, b5x, b6x, b7x, b8x, b9x, b10x, b11x, b12x, b13x, b14x, b15x, b16x, b17x, b18x, b19x⟩ hF1 hA1
        exact H _ hF1
      · have ex : rx_nx c f s (nI p) pc d A = [] := by
          unfold rx_nx rx_sc
          rw [if_neg (by rw [a]; decide), if_neg (by rw [a]; decide), if_neg (by rw [a]; decide), if_neg (by rw [a]; decide), if_pos a, if_neg h0]
          rfl
        rw [ex] at H
        exact br_f (nI_ne0 (by omega) (by omega)) (br_t a (H _ hF))
end
end
section
section
variable {n : Nat} {c f s tx : Nat → Int32} {C E : Int32} {t10 t11 t19 : Nat → Int32}
theorem rx_f94 {D : Nat → Nat} {G : Nat → Nat → Prop} {L i p : Nat} {post : St1 → Prop} {J2 : Int32 → Int32 → Int32 → Int32 → Int32 → Int32 → Int32 → Int32 → Int32 → Int32 → (Nat → Int32) → (Nat → Int32) → (Nat → Int32) → (Nat → Int32) → (Nat → Int32) → (Nat → Int32) → (Nat → Int32) → (Nat → Int32) → (Nat → Int32) → (Nat → Int32) → (Nat → Int32) → (Nat → Int32) → (Nat → Int32) → (Nat → Int32) → (Nat → Int32) → (Nat → Int32) → (Nat → Int32) → (Nat → Int32) → (Nat → Int32) → Prop}
    {x2 x6 : Int32} {st : List rx_E} {V : List Nat} {O : List rx_T} {pc d : Nat} {A : Nat → Int32} {hh mm ll zz nn cc dd ww ee : Int32} {b1 b2 b3 b4 b5 b6 b7 b8 b9 b10 b11 b12 b13 b14 b15 b16 b17 b18 b19 : Nat → Int32} (hP : rx_PW c f s D G L) (hok : rx_ok D G L i p pc d A) (hx6 : x6 = nI (rx_mk c pc d)) (hF : rx_F n c f s tx C t10 t11 E t19 st V O (hh, mm, ll, zz, nn, cc, dd, ww, ee, b1, b2, b3, b4, b5, b6, b7, b8, b9, b10, b11, b12, b13, b14, b15, b16, b17, b18, b19)) (hS : ∀ k, k < 6 → b17 (st.length * 6 + k) = A k) (hw : st.length + 2 ≤ 640) (hO : O.length < 64)
    (H1 : rx_mk c pc d ∈ V → ∀ (hhx mmx llx zzx nnx ccx ddx wwx eex : Int32) (b1x b2x b3x b4x b5x b6x b7x b8x b9x b10x b11x b12x b13x b14x b15x b16x b17x b18x b19x : Nat → Int32), rx_F n c f s tx C t10 t11 E t19 st V O (hhx, mmx, llx, zzx, nnx, ccx, ddx, wwx, eex, b1x, b2x, b3x, b4x, b5x, b6x, b7x, b8x, b9x, b10x, b11x, b12x, b13x, b14x, b15x, b16x, b17x, b18x, b19x) → J2 (x2 + 1) hhx mmx llx zzx nnx ccx ddx wwx eex b1x b2x b3x b4x b5x b6x b7x b8x b9x b10x b11x b12x b13x b14x b15x b16x b17x b18x b19x)
    (H2 : rx_mk c pc d ∉ V → ∀ (hhx mmx llx zzx nnx ccx ddx wwx eex : Int32) (b1x b2x b3x b4x b5x b6x b7x b8x b9x b10x b11x b12x b13x b14x b15x b16x b17x b18x b19x : Nat → Int32), rx_F n c f s tx C t10 t11 E t19 (rx_nx c f s (nI p) pc d A ++ st) (rx_mk c pc d :: V) (O ++ rx_ot c pc A) (hhx, mmx, llx, zzx, nnx, ccx, ddx, wwx, eex, b1x, b2x, b3x, b4x, b5x, b6x, b7x, b8x, b9x, b10x, b11x, b12x, b13x, b14x, b15x, b16x, b17x, b18x, b19x) → J2 (x2 + 1) hhx mmx llx zzx nnx ccx ddx wwx eex b1x b2x b3x b4x b5x b6x b7x b8x b9x b10x b11x b12x b13x b14x b15x b16x b17x b18x b19x) :
    ∃ k, wX_follow_94 post J2 (nI p) x2 (nI pc) (nI d) x6 hh mm ll zz nn cc dd ww ee k 0 b1 b2 b3 b4 b5 b6 b7 b8 b9 b10 b11 b12 b13 b14 b15 b16 b17 b18 b19 := by
  have hd : d ≤ 16 := Nat.le_trans hok.2.1 (hP.2.1 pc hok.1)
  have hmk : rx_mk c pc d < 561 := rx_mk_lt hP.1 hok.1 hd
  obtain ⟨k1, k2, ⟨k7, k8⟩, k9, k10⟩ := hF
  subst hx6 k7
  refine pk_loop (fun k i x => wX_follow_94 post J2 (nI p) x2 (nI pc) (nI d) (nI (rx_mk c pc d)) hh mm ll zz nn cc dd (nI st.length) ee k (nI i) b1 b2 b3 b4 b5 b6 b7 b8 b9 b10 b11 b12 b13 b14 b15 b16 b17 x b19) (fun i x => ∀ k, k < i → x k = A k) 6 0 b18 (by omega) (fun k hk => absurd hk (by omega)) ?_ ?_
  · intro k x h
    have e14 := k9 (rx_mk c pc d) (by omega)
    refine pk_le 6 6 (fun _ => ⟨pk_in (rx_mk c pc d) 1088 (by omega), ?_⟩) (fun z => absurd z (by omega))
    have ecl : (nI (rx_mk c pc d)).toNatClampNeg = rx_mk c pc d := nI_clamp (by omega)
    by_cases hv : rx_mk c pc d ∈ V
    · rw [if_pos hv] at e14
      refine br_f (by rw [ecl, e14]; decide) (nm_e (H1 hv _ _ _ _ _ _ _ _ _ _ _ _ _ _ _ _ _ _ _ _ _ _ _ _ _ _ _ _ ?_))
      exact ⟨k1, k2, ⟨rfl, k8⟩, k9, k10⟩
    · rw [if_neg hv] at e14
      refine br_t (by rw [ecl, e14]) ⟨pk_in (rx_mk c pc d) 1088 (by omega), nm_r (e' := upd b14 (rx_mk c pc d) 1) (by rw [ecl]) ?_⟩
      refine rx_goOnF (n := n) (tx := tx) (C := C) (E := E) (t10 := t10) (t11 := t11) (t19 := t19) (st := st) (V := rx_mk c pc d :: V) (O := O) (A := A) hP hok.1 hd ⟨k1, k2, ⟨rfl, k8⟩, rx_mv_add k9, k10⟩ h hw hO ?_
      rintro ⟨hhx, mmx, llx, zzx, nnx, ccx, ddx, wwx, eex, b1x, b2x, b3x, b4x, b5x, b6x, b7x, b8x, b9x, b10x, b11x, b12x, b13x, b14x, b15x, b16x, b17x, b18x, b19x⟩ hF1
      exact nm_e (H2 hv _ _ _ _ _ _ _ _ _ _ _ _ _ _ _ _ _ _ _ _ _ _ _ _ _ _ _ _ hF1)
  · intro k i x hi h hw'
    refine pk_le 6 i (fun z => absurd z (by omega)) (fun _ => ⟨pk_in (st.length * 6 + i) 3840 (by omega) (rx_ix _ i), pk_in i 6 hi, ?_⟩)
    refine nm_r (e' := upd x i (A i)) (by rw [rx_ix, nI_clamp (by omega), nI_clamp (by omega), hS i hi]) (nm_r (nI_1 i) (hw' _ (fun q hq => ?_)))
    by_cases e : q = i
    · rw [e, pk_us]
    · rw [pk_un e]
      exact h q (by omega)
theorem rx_f2 {D : Nat → Nat} {G : Nat → Nat → Prop} {L i p : Nat} {post : St1 → Prop} (hP : rx_PW c f s D G L) (hi : i ≤ p) : ∀ (k : Nat) (st : List rx_E) (V : List Nat) (O : List rx_T) (hh mm ll zz nn cc dd ww ee : Int32) (b1 b2 b3 b4 b5 b6 b7 b8 b9 b10 b11 b12 b13 b14 b15 b16 b17 b18 b19 : Nat → Int32), k ≤ 1300 → rx_J c D G L i p k st V O → rx_F n c f s tx C t10 t11 E t19 st V O (hh, mm, ll, zz, nn, cc, dd, ww, ee, b1, b2, b3, b4, b5, b6, b7, b8, b9, b10, b11, b12, b13, b14, b15, b16, b17, b18, b19) →
    (∀ u', rx_F n c f s tx C t10 t11 E t19 (rx_go c f s (nI p) k st V O).1 (rx_go c f s (nI p) k st V O).2.1 (rx_go c f s (nI p) k st V O).2.2 u' → post u') → wX_follow_2 post (nI p) (k + 1) (nI (1300 - k)) hh mm ll zz nn cc dd ww ee b1 b2 b3 b4 b5 b6 b7 b8 b9 b10 b11 b12 b13 b14 b15 b16 b17 b18 b19 := by
  intro k
  induction k with
  | zero =>
    intro st V O hh mm ll zz nn cc dd ww ee b1 b2 b3 b4 b5 b6 b7 b8 b9 b10 b11 b12 b13 b14 b15 b16 b17 b18 b19 _ hJ hF H
    refine pk_le 1300 (1300 - 0) (fun _ => H _ ?_) (fun z => absurd z (by omega))
    cases st <;> exact hF
  | succ k ih =>
    intro st V O hh mm ll zz nn cc dd ww ee b1 b2 b3 b4 b5 b6 b7 b8 b9 b10 b11 b12 b13 b14 b15 b16 b17 b18 b19 hk hJ hF H
    refine pk_le 1300 (1300 - (k + 1)) (fun z => absurd z (by omega)) (fun _ => ?_)
    have hF' := hF
    obtain ⟨⟨k1, k2, k3, k4, k5⟩, k6, ⟨k7, k8⟩, k9, k10, k11⟩ := hF'
    cases st with
    | nil =>
      exact br_t (by rw [k7]; exact nI_le (a := 0) (b := 0) (by omega) (by omega)) (H _ hF)
    | cons e st =>
      obtain ⟨pc, d, A⟩ := e
      obtain ⟨m1, m2, m3, m4⟩ := k8
      have hok : rx_ok D G L i p pc d A := hJ.2.1 _ List.mem_cons_self
      have hL : L ≤ 32 := hP.1
      have hpc : pc ≤ L := hok.1
      have hlen := hJ.2.2.1
      have hVO := rx_VO_len hP.1 hJ.1
      rw [List.length_cons] at hlen
      have ew : ww - 1 = nI st.length := by
        rw [k7, List.length_cons]
        exact nI_pred _
      have e15 : b15 (nI st.length).toNatClampNeg = nI pc := by rw [nI_clamp (by omega)]; exact m1
      have e16 : b16 (nI st.length).toNatClampNeg = nI d := by rw [nI_clamp (by omega)]; exact m2
      have ecl : (nI pc).toNatClampNeg = pc := nI_clamp (by omega)
      have i64 : vp_in (nI pc) 64 := pk_in pc 64 (by omega)
      have hF1 : rx_F n c f s tx C t10 t11 E t19 st V O (hh, mm, ll, zz, nn, cc, dd, nI st.length, ee, b1, b2, b3, b4, b5, b6, b7, b8, b9, b10, b11, b12, b13, b14, b15, b16, b17, b18, b19) := ⟨⟨k1, k2, k3, k4, k5⟩, k6, ⟨rfl, m4⟩, k9, k10, k11⟩
      have er : nI (1300 - (k + 1)) + 1 = nI (1300 - k) := by
        rw [nI_1]
        congr 1
        omega
      have go1 : rx_mk c pc d ∈ V → rx_go c f s (nI p) (k + 1) ((pc, d, A) :: st) V O = rx_go c f s (nI p) k st V O := fun hm => by rw [rx_go, if_pos hm]
      have go2 : rx_mk c pc d ∉ V → rx_go c f s (nI p) (k + 1) ((pc, d, A) :: st) V O = rx_go c f s (nI p) k (rx_nx c f s (nI p) pc d A ++ st) (rx_mk c pc d :: V) (O ++ rx_ot c pc A) := fun hm => by rw [rx_go, if_neg hm]
      have fin : ∀ x6, x6 = nI (rx_mk c pc d) → ∃ q, wX_follow_94 post (wX_follow_2 post (nI p) (k + 1)) (nI p) (nI (1300 - (k + 1))) (nI pc) (nI d) x6 hh mm ll zz nn cc dd (nI st.length) ee q 0 b1 b2 b3 b4 b5 b6 b7 b8 b9 b10 b11 b12 b13 b14 b15 b16 b17 b18 b19 := by
        intro x6 hx6
        refine rx_f94 (st := st) (V := V) (O := O) (A := A) hP hok hx6 hF1 m3 (by omega) (by omega) ?_ ?_
        · intro hm hhx mmx llx zzx nnx ccx ddx wwx eex b1x b2x b3x b4x b5x b6x b7x b8x b9x b10x b11x b12x b13x b14x b15x b16x b17x b18x b19x hFx
          rw [er]
          exact ih st V O _ _ _ _ _ _ _ _ _ _ _ _ _ _ _ _ _ _ _ _ _ _ _ _ _ _ _ _ (by omega) (rx_J_seen hJ) hFx (by rw [go1 hm] at H; exact H)
        · intro hm hhx mmx llx zzx nnx ccx ddx wwx eex b1x b2x b3x b4x b5x b6x b7x b8x b9x b10x b11x b12x b13x b14x b15x b16x b17x b18x b19x hFx
          rw [er]
          exact ih _ _ _ _ _ _ _ _ _ _ _ _ _ _ _ _ _ _ _ _ _ _ _ _ _ _ _ _ _ _ _ (by omega) (rx_J_new hP hi hJ hm) hFx (by rw [go2 hm] at H; exact H)
      refine br_f (by rw [k7, List.length_cons]; exact nI_nle (by omega) (by omega)) (nm_r ew ⟨pk_in st.length 640 (by omega), nm_r e15 ⟨pk_in st.length 640 (by omega), nm_r e16 ⟨i64, ?_⟩⟩⟩)
      have e17 : nI pc * 17 = nI (pc * 17) := by rw [show (17 : Int32) = nI 17 from rfl, pk_mul]
      have stop : (c pc = 0 ∨ c pc = 4) → wX_follow_66 post (wX_follow_2 post (nI p) (k + 1)) (nI p) (nI (1300 - (k + 1))) (nI pc) (nI d) hh mm ll zz nn cc dd (nI st.length) ee b1 b2 b3 b4 b5 b6 b7 b8 b9 b10 b11 b12 b13 b14 b15 b16 b17 b18 b19 := by
        intro hs
        refine br_f (show ¬ (1 : Int32) = 0 by decide) (nm_r (e' := nI (rx_mk c pc d)) ?_ (fin _ rfl))
        unfold rx_mk
        rw [if_pos hs, e17]
        exact (nI_add (pc * 17) 0)
      by_cases h0 : c pc = 0
      · exact br_t (by rw [ecl, ← k2]; exact h0) (stop (Or.inl h0))
      · refine br_f (by rw [ecl, ← k2]; exact h0) ⟨i64, ?_⟩
        by_cases h4 : c pc = 4
        · exact br_t (by rw [ecl, ← k2]; exact h4) (stop (Or.inr h4))
        · refine br_f (by rw [ecl, ← k2]; exact h4) (br_t rfl (nm_r (e' := nI (rx_mk c pc d)) ?_ (fin _ rfl)))
          unfold rx_mk
          rw [if_neg (fun z => z.elim h0 h4), e17, nI_add]
theorem rx_followF {D : Nat → Nat} {G : Nat → Nat → Prop} {L i p : Nat} {post : St1 → Prop} {u : St1} {st : List rx_E} {V : List Nat} {O : List rx_T} (hP : rx_PW c f s D G L) (hi : i ≤ p) (hJ : rx_J c D G L i p 1300 st V O) (hF : rx_F n c f s tx C t10 t11 E t19 st V O u)
    (H : ∀ u', rx_F n c f s tx C t10 t11 E t19 [] (rx_go c f s (nI p) 1300 st V O).2.1 (rx_go c f s (nI p) 1300 st V O).2.2 u' → post u') : wpX_follow post u (nI p) := by
  obtain ⟨hh, mm, ll, zz, nn, cc, dd, ww, ee, b1, b2, b3, b4, b5, b6, b7, b8, b9, b10, b11, b12, b13, b14, b15, b16, b17, b18, b19⟩ := u
  refine ⟨1301, ?_⟩
  have h0 := (rx_go_J hP hi hJ).1
  exact rx_f2 hP hi 1300 st V O _ _ _ _ _ _ _ _ _ _ _ _ _ _ _ _ _ _ _ _ _ _ _ _ _ _ _ _ (Nat.le_refl _) hJ hF (by rw [h0]; exact H)
end
end
section
section
variable {n : Nat} {c f s tx : Nat → Int32} {C E : Int32} {t10 t11 t19 : Nat → Int32}
theorem rx_clear {post : St1 → Prop} {hh mm ll zz nn cc dd ww ee : Int32} {b1 b2 b3 b4 b5 b6 b7 b8 b9 b10 b11 b12 b13 b14 b15 b16 b17 b18 b19 : Nat → Int32} (H : ∀ x14, rx_mv x14 [] → post (hh, mm, ll, zz, nn, cc, nI 0, ww, ee, b1, b2, b3, b4, b5, b6, b7, b8, b9, b10, b11, b12, b13, x14, b15, b16, b17, b18, b19)) : wpX_clearSeen post (hh, mm, ll, zz, nn, cc, dd, ww, ee, b1, b2, b3, b4, b5, b6, b7, b8, b9, b10, b11, b12, b13, b14, b15, b16, b17, b18, b19) := by
  refine pk_loop (fun k i x => wX_clearSeen_2 post hh mm ll zz nn cc dd ww ee k (nI i) b1 b2 b3 b4 b5 b6 b7 b8 b9 b10 b11 b12 b13 x b15 b16 b17 b18 b19) (fun i x => ∀ j, j < i → x j = 0) 1088 0 b14 (by omega) (fun k hk => absurd hk (by omega)) ?_ ?_
  · intro k x h
    refine pk_le 1088 1088 (fun _ => H x (fun m hm => ?_)) (fun z => absurd z (by omega))
    rw [if_neg List.not_mem_nil]
    exact h m hm
  · intro k i x hi h hw
    refine pk_le 1088 i (fun z => absurd z (by omega)) (fun _ => ⟨pk_in i 1088 hi, nm_r (e' := upd x i 0) (by rw [nI_clamp (by omega)]) (nm_r (nI_1 i) (hw _ (fun q hq => ?_)))⟩)
    by_cases e : q = i
    · rw [e, pk_us]
    · rw [pk_un e]
      exact h q (by omega)
theorem rx_adv {post : St1 → Prop} {hh mm ll zz nn cc dd ww ee : Int32} {b1 b2 b3 b4 b5 b6 b7 b8 b9 b10 b11 b12 b13 b14 b15 b16 b17 b18 b19 : Nat → Int32} {O : List rx_T} (hO : O.length ≤ 64) (hd : dd = nI O.length) (hm : rx_mt b12 b13 O) (H : ∀ x10 x11, rx_mt x10 x11 O → post (hh, mm, ll, zz, nn, nI O.length, nI O.length, ww, ee, b1, b2, b3, b4, b5, b6, b7, b8, b9, x10, x11, b12, b13, b14, b15, b16, b17, b18, b19)) : wpX_advance post (hh, mm, ll, zz, nn, cc, dd, ww, ee, b1, b2, b3, b4, b5, b6, b7, b8, b9, b10, b11, b12, b13, b14, b15, b16, b17, b18, b19) := by
  subst hd
  have e6 : 6 * nI O.length = nI (6 * O.length) := by rw [show (6 : Int32) = nI 6 from rfl, pk_mul]
  have L2 : ∀ x10, (∀ j, j < O.length → x10 j = b12 j) → ∃ q, wX_advance_38 post hh mm ll zz nn (nI O.length) (nI O.length) ww ee q 0 b1 b2 b3 b4 b5 b6 b7 b8 b9 x10 b11 b12 b13 b14 b15 b16 b17 b18 b19 := by
    intro x10 h10
    refine pk_loop (fun k i x => wX_advance_38 post hh mm ll zz nn (nI O.length) (nI O.length) ww ee k (nI i) b1 b2 b3 b4 b5 b6 b7 b8 b9 x10 x b12 b13 b14 b15 b16 b17 b18 b19) (fun i x => ∀ j, j < i → x j = b13 j) (6 * O.length) 0 b11 (by omega) (fun k hk => absurd hk (by omega)) ?_ ?_
    · intro k x h
      exact pk_le (6 * O.length) (6 * O.length) (fun _ => H x10 x (rx_mt_fr h10 (fun j hj => h j (by omega)) hm)) (fun z => absurd z (by omega)) e6 rfl
    · intro k i x hi h hw
      refine pk_le (6 * O.length) i (fun z => absurd z (by omega)) (fun _ => ⟨pk_in i 384 (by omega), pk_in i 384 (by omega), nm_r (e' := upd x i (b13 i)) (by rw [nI_clamp (by omega)]) (nm_r (nI_1 i) (hw _ (fun q hq => ?_)))⟩) e6 rfl
      by_cases e : q = i
      · rw [e, pk_us]
      · rw [pk_un e]
        exact h q (by omega)
  refine pk_loop (fun k i x => wX_advance_10 post hh mm ll zz nn (nI O.length) (nI O.length) ww ee k (nI i) b1 b2 b3 b4 b5 b6 b7 b8 b9 x b11 b12 b13 b14 b15 b16 b17 b18 b19) (fun i x => ∀ j, j < i → x j = b12 j) O.length 0 b10 (by omega) (fun k hk => absurd hk (by omega)) ?_ ?_
  · intro k x h
    exact pk_le O.length O.length (fun _ => L2 x h) (fun z => absurd z (by omega))
  · intro k i x hi h hw
    refine pk_le O.length i (fun z => absurd z (by omega)) (fun _ => ⟨pk_in i 64 (by omega), pk_in i 64 (by omega), nm_r (e' := upd x i (b12 i)) (by rw [nI_clamp (by omega)]) (nm_r (nI_1 i) (hw _ (fun q hq => ?_)))⟩)
    by_cases e : q = i
    · rw [e, pk_us]
    · rw [pk_un e]
      exact h q (by omega)
theorem rx_load {post : St1 → Prop} {hh mm ll zz nn cc dd ww ee : Int32} {b1 b2 b3 b4 b5 b6 b7 b8 b9 b10 b11 b12 b13 b14 b15 b16 b17 b18 b19 : Nat → Int32} {t : Nat} {A : Nat → Int32} (ht : t < 64) (hA : ∀ k, k < 6 → b11 (t * 6 + k) = A k) (H : ∀ x18, (∀ k, k < 6 → x18 k = A k) → post (hh, mm, ll, zz, nn, cc, dd, ww, ee, b1, b2, b3, b4, b5, b6, b7, b8, b9, b10, b11, b12, b13, b14, b15, b16, b17, x18, b19)) : wpX_loadNotes post (hh, mm, ll, zz, nn, cc, dd, ww, ee, b1, b2, b3, b4, b5, b6, b7, b8, b9, b10, b11, b12, b13, b14, b15, b16, b17, b18, b19) (nI t) := by
  refine pk_loop (fun k i x => wX_loadNotes_2 post (nI t) hh mm ll zz nn cc dd ww ee k (nI i) b1 b2 b3 b4 b5 b6 b7 b8 b9 b10 b11 b12 b13 b14 b15 b16 b17 x b19) (fun i x => ∀ j, j < i → x j = A j) 6 0 b18 (by omega) (fun k hk => absurd hk (by omega)) ?_ ?_
  · intro k x h
    exact pk_le 6 6 (fun _ => H x h) (fun z => absurd z (by omega))
  · intro k i x hi h hw
    refine pk_le 6 i (fun z => absurd z (by omega)) (fun _ => ⟨pk_in (t * 6 + i) 384 (by omega) (rx_ix t i), pk_in i 6 hi, nm_r (e' := upd x i (A i)) (by rw [rx_ix, nI_clamp (by omega), nI_clamp (by omega), hA i hi]) (nm_r (nI_1 i) (hw _ (fun q hq => ?_)))⟩)
    by_cases e : q = i
    · rw [e, pk_us]
    · rw [pk_un e]
      exact h q (by omega)
/-- the end of a step -/
theorem rx_s154 {D : Nat → Nat} {G : Nat → Nat → Prop} {L i p : Nat} {post : St1 → Prop} {V : List Nat} {O : List rx_T} {r : Option (Nat × (Nat → Int32))} {hh mm ll zz nn cc dd ww ee : Int32} {b1 b2 b3 b4 b5 b6 b7 b8 b9 b10 b11 b12 b13 b14 b15 b16 b17 b18 b19 : Nat → Int32} (hP : rx_PW c f s D G L) (hVO : rx_VO c D G L i p V O) (hF : rx_F n c f s tx C t10 t11 E t19 [] V O (hh, mm, ll, zz, nn, cc, dd, ww, ee, b1, b2, b3, b4, b5, b6, b7, b8, b9, b10, b11, b12, b13, b14, b15, b16, b17, b18, b19)) (hr : rx_fd r ee b19)
    (H : ∀ u', rx_H n c f s tx O r u' → post u') : wX_step_154 post hh mm ll zz nn cc dd ww ee b1 b2 b3 b4 b5 b6 b7 b8 b9 b10 b11 b12 b13 b14 b15 b16 b17 b18 b19 := by
  obtain ⟨k1, k6, ⟨k7, k8⟩, k9, k10, k11⟩ := hF
  refine rx_adv (O := O) (by have := (rx_VO_len hP.1 hVO).2; omega) k10 k11 (fun x10 x11 hm => H _ ?_)
  exact ⟨k1, ⟨rfl, hm⟩, k7, hr⟩
theorem rx_s9 {D : Nat → Nat} {G : Nat → Nat → Prop} {L i p : Nat} {acc : Int32} {post : St1 → Prop} {r : Option (Nat × (Nat → Int32))} {full : List rx_T} (hP : rx_PW c f s D G L) (hi : i ≤ p) (hn : n ≤ 10) (hp : p ≤ n) (hfull : full.length ≤ 64) (hC : C = nI full.length) (hmt : rx_mt t10 t11 full) (hr : rx_fd r E t19) (hths : rx_ths c D G L i p full) :
    ∀ (ts pre : List rx_T) (V : List Nat) (O : List rx_T) (hh mm ll zz nn cc dd ww ee : Int32) (b1 b2 b3 b4 b5 b6 b7 b8 b9 b10 b11 b12 b13 b14 b15 b16 b17 b18 b19 : Nat → Int32), full = pre ++ ts → rx_VO c D G L i (p + 1) V O → rx_F n c f s tx C t10 t11 E t19 [] V O (hh, mm, ll, zz, nn, cc, dd, ww, ee, b1, b2, b3, b4, b5, b6, b7, b8, b9, b10, b11, b12, b13, b14, b15, b16, b17, b18, b19) →
    (∀ u', rx_H n c f s tx (rx_sp c f s n tx p acc ts V O).2.1 (rx_up p (rx_sp c f s n tx p acc ts V O).2.2 r) u' → post u') → wX_step_9 post (nI p) acc (ts.length + 2) 1 (nI pre.length) hh mm ll zz nn cc dd ww ee b1 b2 b3 b4 b5 b6 b7 b8 b9 b10 b11 b12 b13 b14 b15 b16 b17 b18 b19 := by
  intro ts
  induction ts with
  | nil =>
    intro pre V O hh mm ll zz nn cc dd ww ee b1 b2 b3 b4 b5 b6 b7 b8 b9 b10 b11 b12 b13 b14 b15 b16 b17 b18 b19 hf hVO hF H
    have e : pre.length = full.length := by rw [hf, List.append_nil]
    have ec : cc = nI full.length := by rw [← hC]; exact hF.2.1.1.symm
    refine pk_le full.length pre.length (fun _ => ?_) (fun z => absurd z (by omega)) ec rfl
    exact rx_s154 hP hVO hF (by rw [← hF.2.1.2.2.2.1, ← hF.2.1.2.2.2.2]; exact hr) H
  | cons t ts ih =>
    intro pre V O hh mm ll zz nn cc dd ww ee b1 b2 b3 b4 b5 b6 b7 b8 b9 b10 b11 b12 b13 b14 b15 b16 b17 b18 b19 hf hVO hF H
    obtain ⟨pc, A⟩ := t
    have hL : L ≤ 32 := hP.1
    have elen : full.length = pre.length + (ts.length + 1) := by rw [hf, List.length_append, List.length_cons]
    have hF' := hF
    obtain ⟨⟨k1, k2, k3, k4, k5⟩, ⟨j1, j2, j3, j4, j5⟩, ⟨k7, k8⟩, k9, k10, k11⟩ := hF'
    have eget : full[pre.length]? = some (pc, A) := by
      rw [hf, List.getElem?_append_right (Nat.le_refl _), Nat.sub_self]
      rfl
    obtain ⟨m1, m2⟩ := hmt _ _ eget
    have hin : (pc, A) ∈ full := by
      rw [hf]
      exact List.mem_append.mpr (Or.inr List.mem_cons_self)
    obtain ⟨o1, o2⟩ := hths _ hin
    have hpc : pc ≤ L := o1.1
    have ecl : (nI pc).toNatClampNeg = pc := nI_clamp (by omega)
    have i64 : vp_in (nI pc) 64 := pk_in pc 64 (by omega)
    have ec : cc = nI full.length := by rw [← hC]; exact j1.symm
    refine pk_le full.length pre.length (fun z => absurd z (by omega)) (fun _ => br_f (show ¬ (1 : Int32) = 0 by decide) ⟨pk_in pre.length 64 (by omega), nm_r (e' := nI pc) (by rw [nI_clamp (by omega), ← j2]; exact m1) ?_⟩) ec rfl
    refine rx_load (A := A) (t := pre.length) (by omega) (fun k hk => by rw [← j3]; exact m2 k hk) (fun x18 h18 => ⟨i64, ?_⟩)
    have hF1 : rx_F n c f s tx C t10 t11 E t19 [] V O (hh, mm, ll, zz, nn, cc, dd, ww, ee, b1, b2, b3, b4, b5, b6, b7, b8, b9, b10, b11, b12, b13, b14, b15, b16, b17, x18, b19) := ⟨⟨k1, k2, k3, k4, k5⟩, ⟨j1, j2, j3, j4, j5⟩, ⟨k7, k8⟩, k9, k10, k11⟩
    have ep : nI pre.length + 1 = nI (pre ++ [(pc, A)]).length := by
      rw [List.length_append]
      exact nI_1 _
    have hf' : full = (pre ++ [(pc, A)]) ++ ts := by rw [hf, List.append_assoc]; rfl
    have skip : rx_sp c f s n tx p acc ((pc, A) :: ts) V O = rx_sp c f s n tx p acc ts V O → wX_step_9 post (nI p) acc (ts.length + 2) 1 (nI (pre ++ [(pc, A)]).length) hh mm ll zz nn cc dd ww ee b1 b2 b3 b4 b5 b6 b7 b8 b9 b10 b11 b12 b13 b14 b15 b16 b17 x18 b19 := fun e => by
      rw [e] at H
      exact ih (pre ++ [(pc, A)]) V O _ _ _ _ _ _ _ _ _ _ _ _ _ _ _ _ _ _ _ _ _ _ _ _ _ _ _ _ hf' hVO hF1 H
    by_cases h4 : c pc = 4
    · refine br_t (by rw [ecl, ← k2]; exact h4) ?_
      have found : (acc < 0 ∨ acc = nI p) → ∃ q, wX_step_65 post (wX_step_9 post (nI p) acc (ts.length + 2)) (nI p) acc (nI pre.length) hh mm ll zz nn cc dd ww (nI p) q 0 b1 b2 b3 b4 b5 b6 b7 b8 b9 b10 b11 b12 b13 b14 b15 b16 b17 x18 b19 := by
        intro ha
        have e : rx_sp c f s n tx p acc ((pc, A) :: ts) V O = (V, O, some A) := by rw [rx_sp, if_pos h4, if_pos ha]
        rw [e] at H
        refine pk_loop (fun k i x => wX_step_65 post (wX_step_9 post (nI p) acc (ts.length + 2)) (nI p) acc (nI pre.length) hh mm ll zz nn cc dd ww (nI p) k (nI i) b1 b2 b3 b4 b5 b6 b7 b8 b9 b10 b11 b12 b13 b14 b15 b16 b17 x18 x) (fun i x => ∀ j, j < i → x j = A j) 6 0 b19 (by omega) (fun k hk => absurd hk (by omega)) ?_ ?_
        · intro k x h
          refine pk_le 6 6 (fun _ => nm_r (nI_1 pre.length) ?_) (fun z => absurd z (by omega))
          have last : wX_step_154 post hh mm ll zz nn cc dd ww (nI p) b1 b2 b3 b4 b5 b6 b7 b8 b9 b10 b11 b12 b13 b14 b15 b16 b17 x18 x := by
            refine rx_s154 (C := C) (t10 := t10) (t11 := t11) (E := nI p) (t19 := x) (r := some (p, A)) hP hVO ?_ ⟨rfl, h⟩ H
            exact ⟨⟨k1, k2, k3, k4, k5⟩, ⟨j1, j2, j3, rfl, rfl⟩, ⟨k7, k8⟩, k9, k10, k11⟩
          exact pk_le full.length (pre.length + 1) (fun _ => last) (fun _ => br_t rfl last) ec rfl
        · intro k i x hi h hw
          refine pk_le 6 i (fun z => absurd z (by omega)) (fun _ => ⟨pk_in i 6 hi, pk_in i 6 hi, nm_r (e' := upd x i (A i)) (by rw [nI_clamp (by omega), h18 i hi]) (nm_r (nI_1 i) (hw _ (fun q hq => ?_)))⟩)
          by_cases e : q = i
          · rw [e, pk_us]
          · rw [pk_un e]
            exact h q (by omega)
      by_cases ha : acc < 0
      · exact br_t ha (found (Or.inl ha))
      · refine br_f ha ?_
        by_cases hb : acc = nI p
        · exact br_t hb (found (Or.inr hb))
        · exact br_f hb (nm_r ep (skip (by rw [rx_sp, if_pos h4, if_neg (fun z => z.elim ha hb)])))
    · refine br_f (by rw [ecl, ← k2]; exact h4) ?_
      refine pk_le n p (fun z => nm_r ep (skip (by rw [rx_sp, if_neg h4, if_neg (fun z' => absurd z'.1 (by omega))]))) (fun hpn => ⟨i64, ?_⟩) k1 rfl
      have read : (f pc = 3 ∨ f pc = tx p) → wX_step_132 post (wX_step_9 post (nI p) acc (ts.length + 2)) (nI p) acc 1 (nI pre.length) (nI pc) hh mm ll zz nn cc dd ww ee b1 b2 b3 b4 b5 b6 b7 b8 b9 b10 b11 b12 b13 b14 b15 b16 b17 x18 b19 := by
        intro hrd
        have e : rx_sp c f s n tx p acc ((pc, A) :: ts) V O = rx_sp c f s n tx p acc ts (rx_go c f s (nI (p + 1)) 1300 [(pc + 1, 0, A)] V O).2.1 (rx_go c f s (nI (p + 1)) 1300 [(pc + 1, 0, A)] V O).2.2 := by
          rw [rx_sp, if_neg h4, if_pos ⟨hpn, hrd⟩]
        rw [e] at H
        have hJ := rx_J_start hVO (rx_ok_rd hP o1 o2 h4)
        refine rx_pushF (pc := pc + 1) (d := 0) (A := A) hF1 h18 (by show 0 < 640; omega) (nI_1 pc) rfl ?_
        rintro ⟨hhx, mmx, llx, zzx, nnx, ccx, ddx, wwx, eex, b1x, b2x, b3x, b4x, b5x, b6x, b7x, b8x, b9x, b10x, b11x, b12x, b13x, b14x, b15x, b16x, b17x, b18x, b19x⟩ hFx hAx
        have e1 : nI p + 1 = nI (p + 1) := nI_1 p
        show wpX_follow _ _ (nI p + 1)
        rw [e1]
        refine rx_followF (i := i) hP (by omega) hJ hFx ?_
        rintro ⟨hhy, mmy, lly, zzy, nny, ccy, ddy, wwy, eey, b1y, b2y, b3y, b4y, b5y, b6y, b7y, b8y, b9y, b10y, b11y, b12y, b13y, b14y, b15y, b16y, b17y, b18y, b19y⟩ hFy
        exact nm_r ep (ih (pre ++ [(pc, A)]) _ _ _ _ _ _ _ _ _ _ _ _ _ _ _ _ _ _ _ _ _ _ _ _ _ _ _ _ _ _ hf' (rx_go_J hP (by omega) hJ).2 hFy H)
      by_cases h3 : f pc = 3
      · exact br_t (by rw [ecl, ← k3]; exact h3) (read (Or.inl h3))
      · refine br_f (by rw [ecl, ← k3]; exact h3) ⟨i64, pk_in p 10 (by omega), ?_⟩
        have epl : (nI p).toNatClampNeg = p := nI_clamp (by omega)
        by_cases ht : f pc = tx p
        · exact br_t (by rw [ecl, epl, ← k3, ← k5]; exact ht) (read (Or.inr ht))
        · exact br_f (by rw [ecl, epl, ← k3, ← k5]; exact ht) (nm_r ep (skip (by rw [rx_sp, if_neg h4, if_neg (fun z => z.2.elim h3 ht)])))
theorem rx_stepF {D : Nat → Nat} {G : Nat → Nat → Prop} {L i p : Nat} {acc : Int32} {post : St1 → Prop} {u : St1} {r : Option (Nat × (Nat → Int32))} {ts : List rx_T} (hP : rx_PW c f s D G L) (hi : i ≤ p) (hn : n ≤ 10) (hp : p ≤ n) (hlen : ts.length ≤ 64) (hths : rx_ths c D G L i p ts) (hH : rx_H n c f s tx ts r u)
    (H : ∀ u', rx_H n c f s tx (rx_sp c f s n tx p acc ts [] []).2.1 (rx_up p (rx_sp c f s n tx p acc ts [] []).2.2 r) u' → post u') : wpX_step post u (nI p) acc := by
  obtain ⟨hh, mm, ll, zz, nn, cc, dd, ww, ee, b1, b2, b3, b4, b5, b6, b7, b8, b9, b10, b11, b12, b13, b14, b15, b16, b17, b18, b19⟩ := u
  obtain ⟨k1, ⟨k2, k3⟩, k4, k5⟩ := hH
  refine rx_clear (fun x14 hv => ?_)
  refine ⟨ts.length + 2, ?_⟩
  exact rx_s9 (C := cc) (t10 := b10) (t11 := b11) (E := ee) (t19 := b19) (full := ts) (r := r) hP hi hn hp hlen k2 k3 k5 hths ts [] [] [] _ _ _ _ _ _ _ _ _ _ _ _ _ _ _ _ _ _ _ _ _ _ _ _ _ _ _ _ rfl rx_VO_0 ⟨k1, ⟨rfl, rfl, rfl, rfl, rfl⟩, ⟨k4, trivial⟩, hv, rfl, rx_mt_0⟩ H
/-- the places from p on -/
theorem rx_s54 {D : Nat → Nat} {G : Nat → Nat → Prop} {L i : Nat} {acc : Int32} {post : St1 → Prop} (hP : rx_PW c f s D G L) (hn : n ≤ 10) : ∀ (k p : Nat) (ts : List rx_T) (r : Option (Nat × (Nat → Int32))) (hh mm ll zz nn cc dd ww ee : Int32) (b1 b2 b3 b4 b5 b6 b7 b8 b9 b10 b11 b12 b13 b14 b15 b16 b17 b18 b19 : Nat → Int32), k = n + 1 - p → i ≤ p → p ≤ n + 1 → ts.length ≤ 64 → rx_ths c D G L i p ts → rx_H n c f s tx ts r (hh, mm, ll, zz, nn, cc, dd, ww, ee, b1, b2, b3, b4, b5, b6, b7, b8, b9, b10, b11, b12, b13, b14, b15, b16, b17, b18, b19) →
    (∀ u', rx_K n c f s tx u' → rx_R (rx_run c f s n tx acc k p ts r) u' → post u') → wX_search_54 post acc (k + 1) (nI p) hh mm ll zz nn cc dd ww ee b1 b2 b3 b4 b5 b6 b7 b8 b9 b10 b11 b12 b13 b14 b15 b16 b17 b18 b19 := by
  intro k
  induction k with
  | zero =>
    intro p ts r hh mm ll zz nn cc dd ww ee b1 b2 b3 b4 b5 b6 b7 b8 b9 b10 b11 b12 b13 b14 b15 b16 b17 b18 b19 hk hi hp hlen hths hH H
    obtain ⟨k1, ⟨k2, k3⟩, k4, k5⟩ := hH
    refine pk_lt n p (fun _ => H _ k1 ?_) (fun z => absurd z (by omega)) k1.1 rfl
    cases ts <;> exact k5
  | succ k ih =>
    intro p ts r hh mm ll zz nn cc dd ww ee b1 b2 b3 b4 b5 b6 b7 b8 b9 b10 b11 b12 b13 b14 b15 b16 b17 b18 b19 hk hi hp hlen hths hH H
    have hH' := hH
    obtain ⟨k1, ⟨k2, k3⟩, k4, k5⟩ := hH'
    refine pk_lt n p (fun z => absurd z (by omega)) (fun hpn => ?_) k1.1 rfl
    cases ts with
    | nil => exact br_t (by rw [k2]; exact nI_le (a := 0) (b := 0) (by omega) (by omega)) (H _ k1 k5)
    | cons t ts =>
      refine br_f (by rw [k2, List.length_cons]; rw [List.length_cons] at hlen; exact nI_nle (by omega) (by omega)) ?_
      have hVO := rx_sp_VO (n := n) (tx := tx) (acc := acc) hP hi _ _ _ hths rx_VO_0
      refine rx_stepF hP hi hn hpn hlen hths hH ?_
      rintro ⟨hhx, mmx, llx, zzx, nnx, ccx, ddx, wwx, eex, b1x, b2x, b3x, b4x, b5x, b6x, b7x, b8x, b9x, b10x, b11x, b12x, b13x, b14x, b15x, b16x, b17x, b18x, b19x⟩ hHx
      exact nm_r (nI_1 p) (ih (p + 1) _ _ _ _ _ _ _ _ _ _ _ _ _ _ _ _ _ _ _ _ _ _ _ _ _ _ _ _ _ _ (by omega) (by omega) (by omega) (by have := (rx_VO_len hP.1 hVO).2; omega) (rx_ths_of hVO) hHx H)
/-- a search: what is found is rx_se -/
theorem rx_searchF {D : Nat → Nat} {G : Nat → Nat → Prop} {L i : Nat} {acc : Int32} {post : St1 → Prop} {u : St1} (hP : rx_PW c f s D G L) (hn : n ≤ 10) (hi : i ≤ n) (hK : rx_K n c f s tx u)
    (H : ∀ u', rx_K n c f s tx u' → rx_R (rx_se c f s n tx i acc) u' → post u') : wpX_search post u (nI i) acc := by
  obtain ⟨hh, mm, ll, zz, nn, cc, dd, ww, ee, b1, b2, b3, b4, b5, b6, b7, b8, b9, b10, b11, b12, b13, b14, b15, b16, b17, b18, b19⟩ := u
  refine rx_clear (fun x14 hv => ?_)
  refine pk_loop (fun k j x => wX_search_12 post (nI i) acc hh mm ll zz nn cc (nI 0) ww (-4 : Int32) k (nI j) b1 b2 b3 b4 b5 b6 b7 b8 b9 b10 b11 b12 b13 x14 b15 b16 b17 x b19) (fun j x => ∀ q, q < j → x q = -4) 6 0 b18 (by omega) (fun k hk => absurd hk (by omega)) ?_ ?_
  · intro k x h
    refine pk_le 6 6 (fun _ => ?_) (fun z => absurd z (by omega))
    have hJ := rx_J_start (c := c) (rx_VO_0 (c := c) (D := D) (G := G) (L := L) (i := i) (p := i)) (rx_ok_0 (i := i) hP)
    refine rx_pushF (n := n) (c := c) (f := f) (s := s) (tx := tx) (C := cc) (t10 := b10) (t11 := b11) (E := -4) (t19 := b19) (st := []) (V := []) (O := []) (pc := 0) (d := 0) (A := fun _ => -4) ⟨hK, ⟨rfl, rfl, rfl, rfl, rfl⟩, ⟨rfl, trivial⟩, hv, rfl, rx_mt_0⟩ h (by show 0 < 640; omega) rfl rfl ?_
    rintro ⟨hhx, mmx, llx, zzx, nnx, ccx, ddx, wwx, eex, b1x, b2x, b3x, b4x, b5x, b6x, b7x, b8x, b9x, b10x, b11x, b12x, b13x, b14x, b15x, b16x, b17x, b18x, b19x⟩ hFx hAx
    refine rx_followF (i := i) hP (Nat.le_refl _) hJ hFx ?_
    rintro ⟨hhy, mmy, lly, zzy, nny, ccy, ddy, wwy, eey, b1y, b2y, b3y, b4y, b5y, b6y, b7y, b8y, b9y, b10y, b11y, b12y, b13y, b14y, b15y, b16y, b17y, b18y, b19y⟩ hFy
    have hVO := (rx_go_J hP (Nat.le_refl _) hJ).2
    obtain ⟨k1, k6, ⟨k7, k8⟩, k9, k10, k11⟩ := hFy
    have hlen := (rx_VO_len hP.1 hVO).2
    refine rx_adv (by omega) k10 k11 (fun x10 x11 hm => ⟨n + 1 - i + 1, ?_⟩)
    refine rx_s54 (i := i) (r := none) hP hn (n + 1 - i) i _ _ _ _ _ _ _ _ _ _ _ _ _ _ _ _ _ _ _ _ _ _ _ _ _ _ _ _ _ rfl (Nat.le_refl _) (by omega) (by omega) (rx_ths_of hVO) ⟨k1, ⟨rfl, hm⟩, k7, k6.2.2.2.1.symm⟩ H
  · intro k j x hj h hw
    refine pk_le 6 j (fun z => absurd z (by omega)) (fun _ => ⟨pk_in j 6 hj, nm_r (e' := upd x j (-4)) (by rw [nI_clamp (by omega)]) (nm_r (nI_1 j) (hw _ (fun q hq => ?_)))⟩)
    by_cases e : q = j
    · rw [e, pk_us]
    · rw [pk_un e]
      exact h q (by omega)
end
end
section
/-! making patterns -/
/-- the patterns on the stack: B their begins, each a labelled fragment -/
def rx_B (B : Nat → Nat) (h m l : Nat) (b1 b3 b4 b5 : Nat → Int32) : Prop :=
  h ≤ 6 ∧ m ≤ 16 ∧ l ≤ 2 * m ∧ B h = l ∧ (∀ i j, i ≤ j → j ≤ h → B i ≤ B j) ∧ (∀ i, i < h → b1 i = nI (B i)) ∧ ∀ i, i < h → rx_FR (fun k => b3 (B i + k)) (fun k => b4 (B i + k)) (fun k => b5 (B i + k)) (B (i + 1) - B i) m
/-- the program in use -/
def rx_UI (b6 b7 b8 : Nat → Int32) : Prop := ∃ L, L ≤ 32 ∧ rx_FR b6 b7 b8 L 16 ∧ b6 L = 4
def rx_I (u : St1) : Prop := match u with
  | (hh, mm, ll, zz, nn, cc, dd, ww, ee, b1, b2, b3, b4, b5, b6, b7, b8, b9, b10, b11, b12, b13, b14, b15, b16, b17, b18, b19) => ∃ (B : Nat → Nat) (h m l n : Nat), hh = nI h ∧ mm = nI m ∧ ll = nI l ∧ nn = nI n ∧ n ≤ 10 ∧ rx_B B h m l b1 b3 b4 b5 ∧ rx_UI b6 b7 b8
theorem rx_B_0 {b1 b3 b4 b5 : Nat → Int32} : rx_B (fun _ => 0) 0 0 0 b1 b3 b4 b5 :=
  ⟨by omega, by omega, by omega, rfl, fun _ _ _ _ => Nat.le_refl _, fun i hi => absurd hi (by omega), fun i hi => absurd hi (by omega)⟩
/-- the uppermost patterns are replaced by one -/
theorem rx_B_top {B : Nat → Nat} {h m l t m' l' : Nat} {b1 b3 b4 b5 x1 x3 x4 x5 : Nat → Int32} (hB : rx_B B h m l b1 b3 b4 b5) (ht : t ≤ h) (ht6 : t + 1 ≤ 6) (hm : m ≤ m') (hm' : m' ≤ 16) (hl' : l' ≤ 2 * m') (hBl : B t ≤ l')
    (h1 : ∀ i, i < t → x1 i = b1 i) (h1t : x1 t = nI (B t)) (ha : ∀ p, p < B t → x3 p = b3 p ∧ x4 p = b4 p ∧ x5 p = b5 p)
    (hF : rx_FR (fun k => x3 (B t + k)) (fun k => x4 (B t + k)) (fun k => x5 (B t + k)) (l' - B t) m') : ∃ B', rx_B B' (t + 1) m' l' x1 x3 x4 x5 := by
  obtain ⟨k1, k2, k3, k4, k5, k6, k7⟩ := hB
  have o : ∀ i, i ≤ t → (if i = t + 1 then l' else B i) = B i := fun i hi => if_neg (by omega)
  refine ⟨fun i => if i = t + 1 then l' else B i, ht6, hm', hl', if_pos rfl, ?_, ?_, ?_⟩
  · intro i j hij hj
    show (if i = t + 1 then l' else B i) ≤ (if j = t + 1 then l' else B j)
    by_cases e : j = t + 1
    · rw [if_pos e]
      by_cases e2 : i = t + 1
      · rw [if_pos e2]
        exact Nat.le_refl _
      · rw [if_neg e2]
        exact Nat.le_trans (k5 i t (by omega) ht) hBl
    · rw [if_neg e, if_neg (by omega)]
      exact k5 i j hij (by omega)
  · intro i hi
    show x1 i = nI (if i = t + 1 then l' else B i)
    rw [o i (by omega)]
    by_cases e : i = t
    · rw [e]
      exact h1t
    · rw [h1 i (by omega)]
      exact k6 i (by omega)
  · intro i hi
    show rx_FR (fun k => x3 ((if i = t + 1 then l' else B i) + k)) (fun k => x4 ((if i = t + 1 then l' else B i) + k)) (fun k => x5 ((if i = t + 1 then l' else B i) + k)) ((if i + 1 = t + 1 then l' else B (i + 1)) - (if i = t + 1 then l' else B i)) m'
    rw [o i (by omega)]
    by_cases e : i = t
    · rw [e, if_pos rfl]
      exact hF
    · rw [o (i + 1) (by omega)]
      have hle := k5 (i + 1) t (by omega) ht
      refine rx_FR_mono (rx_FR_congr (k7 i (by omega)) (fun k hk => ?_)) hm
      exact ha (B i + k) (by omega)
/-- y is b with a gap at x, up to l -/
def rx_sh (x l : Nat) (b y : Nat → Int32) : Prop := (∀ p, p ≤ x → y p = b p) ∧ ∀ j, x ≤ j → j < l → y (j + 1) = b j
theorem rx_sh_st {x l : Nat} {b y : Nat → Int32} (h : rx_sh (x + 1) l b y) (hx : x < l) : rx_sh x l b (upd y (x + 1) (y x)) := by
  refine ⟨fun p hp => ?_, fun j h1 h2 => ?_⟩
  · rw [pk_un (by omega)]
    exact h.1 p (by omega)
  · by_cases e : j = x
    · rw [e, pk_us]
      exact h.1 x (by omega)
    · rw [pk_un (by omega)]
      exact h.2 j (by omega) h2
theorem rx_open {post : St1 → Prop} {hh mm ll zz nn cc dd ww ee : Int32} {b1 b2 b3 b4 b5 b6 b7 b8 b9 b10 b11 b12 b13 b14 b15 b16 b17 b18 b19 : Nat → Int32} {x l : Nat} {w0 w1 : Int32} (hx : x ≤ l) (hl : l < 63) (hll : ll = nI l) (h0 : w0 = nI x) (h1 : w1 = nI 1) (H : ∀ x3 x4 x5, rx_sh x l b3 x3 → rx_sh x l b4 x4 → rx_sh x l b5 x5 → post (hh, mm, nI (l + 1), zz, nn, cc, dd, ww, ee, b1, b2, x3, x4, x5, b6, b7, b8, b9, b10, b11, b12, b13, b14, b15, b16, b17, b18, b19)) : wpX_open post (hh, mm, ll, zz, nn, cc, dd, ww, ee, b1, b2, b3, b4, b5, b6, b7, b8, b9, b10, b11, b12, b13, b14, b15, b16, b17, b18, b19) w0 w1 := by
  subst hll h0 h1
  refine nm_r (e' := nI (l - 0) - 1) rfl ?_
  refine pk_loop (σ := (Nat → Int32) × (Nat → Int32) × (Nat → Int32)) (fun k i y => wX_open_7 post (nI x) (nI 1) hh mm (nI l) zz nn cc dd ww ee k (nI (l - i) - 1) b1 b2 y.1 y.2.1 y.2.2 b6 b7 b8 b9 b10 b11 b12 b13 b14 b15 b16 b17 b18 b19) (fun i y => rx_sh (l - i) l b3 y.1 ∧ rx_sh (l - i) l b4 y.2.1 ∧ rx_sh (l - i) l b5 y.2.2) (l - x) 0 (b3, b4, b5) (by omega) ?_ ?_ ?_
  · have r : ∀ b, rx_sh (l - 0) l b b := fun b => ⟨fun _ _ => rfl, fun j h1 h2 => absurd h1 (by omega)⟩
    exact ⟨r b3, r b4, r b5⟩
  · intro k y h
    have e : l - (l - x) = x := by omega
    rw [e] at h
    have hlt : nI (l - (l - x)) - 1 < nI x := by
      rw [e]
      rcases Nat.eq_zero_or_pos x with z | z
      · rw [z]
        decide
      · obtain ⟨q, rfl⟩ : ∃ q, x = q + 1 := ⟨x - 1, by omega⟩
        rw [nI_pred]
        exact nI_lt (by omega) (by omega)
    exact br_t hlt (nm_r (nI_add l 1) (H _ _ _ h.1 h.2.1 h.2.2))
  · intro k i y hi h hw
    obtain ⟨q, hq⟩ : ∃ q, l - i = q + 1 := ⟨l - i - 1, by omega⟩
    have eq : l - (i + 1) = q := by omega
    rw [hq] at h
    have ev : nI (l - i) - 1 = nI q := by rw [hq, nI_pred]
    have ecl : (nI q).toNatClampNeg = q := nI_clamp (by omega)
    have ecl1 : (nI q + nI 1).toNatClampNeg = q + 1 := by rw [nI_add]; exact nI_clamp (by omega)
    have i1 : vp_in (nI q) 64 := pk_in q 64 (by omega)
    have i2 : vp_in (nI q + nI 1) 64 := pk_in (q + 1) 64 (by omega) (nI_add q 1)
    show wX_open_7 post (nI x) (nI 1) hh mm (nI l) zz nn cc dd ww ee (k + 1) (nI (l - i) - 1) b1 b2 y.1 y.2.1 y.2.2 b6 b7 b8 b9 b10 b11 b12 b13 b14 b15 b16 b17 b18 b19
    rw [ev]
    have t := hw (upd y.1 (q + 1) (y.1 q), upd y.2.1 (q + 1) (y.2.1 q), upd y.2.2 (q + 1) (y.2.2 q)) (by rw [eq]; exact ⟨rx_sh_st h.1 (by omega), rx_sh_st h.2.1 (by omega), rx_sh_st h.2.2 (by omega)⟩)
    rw [eq] at t
    refine br_f (nI_nlt (by omega) (by omega)) ⟨i1, i2, nm_r (by rw [ecl, ecl1]) ⟨i1, i2, nm_r (by rw [ecl, ecl1]) ⟨i1, i2, nm_r (by rw [ecl, ecl1]) (nm_r (e' := nI q - 1) (by grind) t)⟩⟩⟩
theorem rx_put {post : St1 → Prop} {hh mm ll zz nn cc dd ww ee : Int32} {b1 b2 b3 b4 b5 b6 b7 b8 b9 b10 b11 b12 b13 b14 b15 b16 b17 b18 b19 : Nat → Int32} {x : Nat} {w0 q1 q2 q3 : Int32} (hx : x < 64) (h0 : w0 = nI x) (H : post (hh, mm, ll, zz, nn, cc, dd, ww, ee, b1, b2, upd b3 x q1, upd b4 x q2, upd b5 x q3, b6, b7, b8, b9, b10, b11, b12, b13, b14, b15, b16, b17, b18, b19)) : wpX_put post (hh, mm, ll, zz, nn, cc, dd, ww, ee, b1, b2, b3, b4, b5, b6, b7, b8, b9, b10, b11, b12, b13, b14, b15, b16, b17, b18, b19) w0 q1 q2 q3 := by
  subst h0
  have ecl : (nI x).toNatClampNeg = x := nI_clamp (by omega)
  have i1 : vp_in (nI x) 64 := pk_in x 64 hx
  exact ⟨i1, nm_r (by rw [ecl]) ⟨i1, nm_r (by rw [ecl]) ⟨i1, nm_r (by rw [ecl]) H⟩⟩⟩
theorem rx_emit {post : St1 → Prop} {hh mm ll zz nn cc dd ww ee : Int32} {b1 b2 b3 b4 b5 b6 b7 b8 b9 b10 b11 b12 b13 b14 b15 b16 b17 b18 b19 : Nat → Int32} {l : Nat} {q1 q2 q3 : Int32} (hl : l < 64) (h0 : ll = nI l) (H : post (hh, mm, nI (l + 1), zz, nn, cc, dd, ww, ee, b1, b2, upd b3 l q1, upd b4 l q2, upd b5 l q3, b6, b7, b8, b9, b10, b11, b12, b13, b14, b15, b16, b17, b18, b19)) : wpX_emit post (hh, mm, ll, zz, nn, cc, dd, ww, ee, b1, b2, b3, b4, b5, b6, b7, b8, b9, b10, b11, b12, b13, b14, b15, b16, b17, b18, b19) q1 q2 q3 := by
  subst h0
  have ecl : (nI l).toNatClampNeg = l := nI_clamp (by omega)
  have i1 : vp_in (nI l) 64 := pk_in l 64 hl
  exact ⟨i1, nm_r (by rw [ecl]) ⟨i1, nm_r (by rw [ecl]) ⟨i1, nm_r (by rw [ecl]) (nm_r (nI_1 l) H)⟩⟩⟩
theorem rx_leaf {post : Int32 → St1 → Prop} {u : St1} {p0 p1 : Int32} (hI : rx_I u) (H : ∀ r u', rx_I u' → post r u') : wpX_leaf post u p0 p1 := by
  obtain ⟨hh, mm, ll, zz, nn, cc, dd, ww, ee, b1, b2, b3, b4, b5, b6, b7, b8, b9, b10, b11, b12, b13, b14, b15, b16, b17, b18, b19⟩ := u
  obtain ⟨B, h, m, l, n, e1, e2, e3, e4, hn, hB, hU⟩ := hI
  have hI0 : rx_I (hh, mm, ll, zz, nn, cc, dd, ww, ee, b1, b2, b3, b4, b5, b6, b7, b8, b9, b10, b11, b12, b13, b14, b15, b16, b17, b18, b19) := ⟨B, h, m, l, n, e1, e2, e3, e4, hn, hB, hU⟩
  have hh6 : h ≤ 6 := hB.1
  have hm16 : m ≤ 16 := hB.2.1
  have hlm : l ≤ 2 * m := hB.2.2.1
  have hBh : B h = l := hB.2.2.2.1
  subst e1 e2 e3
  refine pk_eq m 16 (fun _ => H _ _ hI0) (fun z1 => ?_)
  refine pk_eq h 6 (fun _ => H _ _ hI0) (fun z2 => ?_)
  have i6 : vp_in (nI h) 6 := pk_in h 6 (by omega)
  have ecl : (nI h).toNatClampNeg = h := nI_clamp (by omega)
  refine ⟨i6, nm_r (e' := upd b1 h (nI l)) (by rw [ecl]) ⟨i6, nm_e (nm_r (nI_1 h) (nm_r (nI_1 m) ?_))⟩⟩
  have em : ∀ z0, wX_leaf_85 post z0 0 (nI (h + 1)) (nI (m + 1)) (nI l) zz nn cc dd ww ee (upd b1 h (nI l)) (upd b2 (nI h).toNatClampNeg 0) b3 b4 b5 b6 b7 b8 b9 b10 b11 b12 b13 b14 b15 b16 b17 b18 b19 := by
    intro z0
    refine rx_emit (l := l) (by omega) rfl (H _ _ ?_)
    obtain ⟨B', hB'⟩ := rx_B_top (t := h) (m' := m + 1) (l' := l + 1) (x1 := upd b1 h (nI l)) (x3 := upd b3 l 0) (x4 := upd b4 l z0) (x5 := upd b5 l 0) hB (by omega) (by omega) (by omega) (by omega) (by omega) (by omega) (fun i hi => pk_un (by omega)) (by rw [pk_us, hBh]) (fun p hp => ⟨pk_un (by omega), pk_un (by omega), pk_un (by omega)⟩) (by
      rw [hBh, show l + 1 - l = 1 by omega]
      exact rx_FR_leaf (by show upd b3 l 0 (l + 0) = 0; exact pk_us))
    exact ⟨B', h + 1, m + 1, l + 1, n, rfl, rfl, rfl, e4, hn, hB', hU⟩
  have em2 : ∀ x1, wX_leaf_73 post x1 p1 (nI (h + 1)) (nI (m + 1)) (nI l) zz nn cc dd ww ee (upd b1 h (nI l)) (upd b2 (nI h).toNatClampNeg 0) b3 b4 b5 b6 b7 b8 b9 b10 b11 b12 b13 b14 b15 b16 b17 b18 b19 := fun x1 => br_c (fun _ => em 3) (fun _ => em p1)
  refine br_c (fun _ => em2 _) (fun _ => br_c (fun _ => em2 _) (fun _ => H _ _ ?_))
  obtain ⟨B', hB'⟩ := rx_B_top (t := h) (m' := m + 1) (l' := l) (x1 := upd b1 h (nI l)) (x3 := b3) (x4 := b4) (x5 := b5) hB (by omega) (by omega) (by omega) (by omega) (by omega) (by omega) (fun i hi => pk_un (by omega)) (by rw [pk_us, hBh]) (fun p hp => ⟨rfl, rfl, rfl⟩) (by
    rw [hBh, show l - l = 0 by omega]
    exact rx_FR_nil)
  exact ⟨B', h + 1, m + 1, l, n, rfl, rfl, rfl, e4, hn, hB', hU⟩
theorem rx_letter {post : Int32 → St1 → Prop} {u : St1} {p0 : Int32} (hI : rx_I u) (H : ∀ r u', rx_I u' → post r u') : wpX_letter post u p0 := by
  obtain ⟨hh, mm, ll, zz, nn, cc, dd, ww, ee, b1, b2, b3, b4, b5, b6, b7, b8, b9, b10, b11, b12, b13, b14, b15, b16, b17, b18, b19⟩ := u
  refine br_c (fun _ => H _ _ hI) (fun _ => br_c (fun _ => rx_leaf hI ?_) (fun _ => H _ _ hI))
  rintro r ⟨hhx, mmx, llx, zzx, nnx, ccx, ddx, wwx, eex, b1x, b2x, b3x, b4x, b5x, b6x, b7x, b8x, b9x, b10x, b11x, b12x, b13x, b14x, b15x, b16x, b17x, b18x, b19x⟩ h
  exact H _ _ h
theorem rx_any {post : Int32 → St1 → Prop} {u : St1} (hI : rx_I u) (H : ∀ r u', rx_I u' → post r u') : wpX_any post u := by
  obtain ⟨hh, mm, ll, zz, nn, cc, dd, ww, ee, b1, b2, b3, b4, b5, b6, b7, b8, b9, b10, b11, b12, b13, b14, b15, b16, b17, b18, b19⟩ := u
  refine rx_leaf hI ?_
  rintro r ⟨hhx, mmx, llx, zzx, nnx, ccx, ddx, wwx, eex, b1x, b2x, b3x, b4x, b5x, b6x, b7x, b8x, b9x, b10x, b11x, b12x, b13x, b14x, b15x, b16x, b17x, b18x, b19x⟩ h
  exact H _ _ h
theorem rx_empty {post : Int32 → St1 → Prop} {u : St1} (hI : rx_I u) (H : ∀ r u', rx_I u' → post r u') : wpX_empty post u := by
  obtain ⟨hh, mm, ll, zz, nn, cc, dd, ww, ee, b1, b2, b3, b4, b5, b6, b7, b8, b9, b10, b11, b12, b13, b14, b15, b16, b17, b18, b19⟩ := u
  refine rx_leaf hI ?_
  rintro r ⟨hhx, mmx, llx, zzx, nnx, ccx, ddx, wwx, eex, b1x, b2x, b3x, b4x, b5x, b6x, b7x, b8x, b9x, b10x, b11x, b12x, b13x, b14x, b15x, b16x, b17x, b18x, b19x⟩ h
  exact H _ _ h
/-- refused: below 0, or there is room and there are enough -/
theorem rx_refused {post : Int32 → Prop} {hh mm ll zz nn cc dd ww ee : Int32} {b1 b2 b3 b4 b5 b6 b7 b8 b9 b10 b11 b12 b13 b14 b15 b16 b17 b18 b19 : Nat → Int32} {h m q : Nat} {w : Int32} (h1 : hh = nI h) (h2 : mm = nI m) (h3 : w = nI q) (hh6 : h ≤ 6) (hm16 : m ≤ 16) (hq : q ≤ 6) (H0 : m < 16 → q ≤ h → post 0) (H1 : ∀ r : Int32, ¬ 0 ≤ r → post r) : wpX_refused post (hh, mm, ll, zz, nn, cc, dd, ww, ee, b1, b2, b3, b4, b5, b6, b7, b8, b9, b10, b11, b12, b13, b14, b15, b16, b17, b18, b19) w := by
  subst h1 h2 h3
  exact pk_eq m 16 (fun _ => H1 _ (by decide)) (fun z1 => pk_le q h (fun z2 => H0 (by omega) z2) (fun _ => H1 _ (by decide)))
theorem rx_cat {post : Int32 → St1 → Prop} {u : St1} (hI : rx_I u) (H : ∀ r u', rx_I u' → post r u') : wpX_cat post u := by
  obtain ⟨hh, mm, ll, zz, nn, cc, dd, ww, ee, b1, b2, b3, b4, b5, b6, b7, b8, b9, b10, b11, b12, b13, b14, b15, b16, b17, b18, b19⟩ := u
  obtain ⟨B, h, m, l, n, e1, e2, e3, e4, hn, hB, hU⟩ := hI
  have hI0 : rx_I (hh, mm, ll, zz, nn, cc, dd, ww, ee, b1, b2, b3, b4, b5, b6, b7, b8, b9, b10, b11, b12, b13, b14, b15, b16, b17, b18, b19) := ⟨B, h, m, l, n, e1, e2, e3, e4, hn, hB, hU⟩
  obtain ⟨k1, k2, k3, k4, k5, k6, k7⟩ := id hB
  unfold wpX_cat
  refine rx_refused (q := 2) e1 e2 rfl k1 k2 (by omega) (fun z1 z2 => br_t (by decide) ?_) (fun r hr => br_f hr (H _ _ hI0))
  obtain ⟨g, rfl⟩ : ∃ g, h = g + 2 := ⟨h - 2, by omega⟩
  have ef : hh - 1 = nI (g + 1) := by rw [e1]; exact nI_pred (g + 1)
  refine nm_r ef ⟨pk_in g 6 (by omega) (nI_pred g), pk_in (g + 1) 6 (by omega), pk_in g 6 (by omega) (nI_pred g), nm_e (nm_r (e' := nI (m + 1)) (by rw [e2]; exact nI_1 m) (H _ _ ?_))⟩
  have f1 := k7 g (by omega)
  have f2 := k7 (g + 1) (by omega)
  have o1 := k5 g (g + 1) (by omega) (by omega)
  have o2 := k5 (g + 1) (g + 2) (by omega) (by omega)
  have o3 : B (g + 1 + 1) = l := k4
  rw [o3] at f2
  obtain ⟨B', hB'⟩ := rx_B_top (t := g) (m' := m + 1) (l' := l) (x1 := b1) (x3 := b3) (x4 := b4) (x5 := b5) hB (by omega) (by omega) (by omega) (by omega) (by omega) (by omega) (fun i hi => rfl) (k6 g (by omega)) (fun p hp => ⟨rfl, rfl, rfl⟩) (by
    have e : l - B g = (B (g + 1) - B g) + (l - B (g + 1)) := by omega
    rw [e]
    refine rx_FR_mono (rx_FR_cat f1 (rx_FR_congr f2 (fun k hk => ?_))) (by omega)
    have e : B g + (B (g + 1) - B g + k) = B (g + 1) + k := by omega
    show b3 (B g + (B (g + 1) - B g + k)) = _ ∧ b4 (B g + (B (g + 1) - B g + k)) = _ ∧ b5 (B g + (B (g + 1) - B g + k)) = _
    rw [e]
    exact ⟨rfl, rfl, rfl⟩)
  exact ⟨B', g + 1, m + 1, l, n, rfl, rfl, e3, e4, hn, hB', hU⟩
theorem rx_alt {post : Int32 → St1 → Prop} {u : St1} (hI : rx_I u) (H : ∀ r u', rx_I u' → post r u') : wpX_alt post u := by
  obtain ⟨hh, mm, ll, zz, nn, cc, dd, ww, ee, b1, b2, b3, b4, b5, b6, b7, b8, b9, b10, b11, b12, b13, b14, b15, b16, b17, b18, b19⟩ := u
  obtain ⟨B, h, m, l, n, e1, e2, e3, e4, hn, hB, hU⟩ := hI
  have hI0 : rx_I (hh, mm, ll, zz, nn, cc, dd, ww, ee, b1, b2, b3, b4, b5, b6, b7, b8, b9, b10, b11, b12, b13, b14, b15, b16, b17, b18, b19) := ⟨B, h, m, l, n, e1, e2, e3, e4, hn, hB, hU⟩
  obtain ⟨k1, k2, k3, k4, k5, k6, k7⟩ := id hB
  unfold wpX_alt
  refine rx_refused (q := 2) e1 e2 rfl k1 k2 (by omega) (fun z1 z2 => br_t (by decide) ?_) (fun r hr => br_f hr (H _ _ hI0))
  obtain ⟨g, rfl⟩ : ∃ g, h = g + 2 := ⟨h - 2, by omega⟩
  have f1 := k7 g (by omega)
  have f2 := k7 (g + 1) (by omega)
  have o1 := k5 g (g + 1) (by omega) (by omega)
  have o2 := k5 (g + 1) (g + 2) (by omega) (by omega)
  have o3 : B (g + 1 + 1) = l := k4
  rw [o3] at f2
  have o4 : B (g + 2) = l := k4
  rw [o4] at o2
  have v1 : hh - 1 = nI (g + 1) := by rw [e1]; exact nI_pred (g + 1)
  have v2 : hh - 2 = nI g := by rw [e1, show (2 : Int32) = nI 2 from rfl, pk_sub (by omega)]; rfl
  have y1 : b1 (hh - 2).toNatClampNeg = nI (B g) := by rw [v2, nI_clamp (by omega)]; exact k6 g (by omega)
  have y2 : b1 (hh - 1).toNatClampNeg = nI (B (g + 1)) := by rw [v1, nI_clamp (by omega)]; exact k6 (g + 1) (by omega)
  refine ⟨pk_in g 6 (by omega) v2, nm_r y1 ⟨pk_in (g + 1) 6 (by omega) v1, nm_r y2 (nm_r (pk_sub o1) (nm_r (e' := nI (l - B (g + 1))) (by rw [e3]; exact pk_sub o2) ?_))⟩⟩
  refine rx_open o2 (by omega) e3 rfl rfl (fun y3 y4 y5 s3 s4 s5 => ?_)
  refine rx_put (x := B (g + 1)) (by omega) rfl ?_
  refine rx_open (x := B g) (l := l + 1) (by omega) (by omega) rfl rfl rfl (fun t3 t4 t5 u3 u4 u5 => ?_)
  refine rx_put (x := B g) (by omega) rfl ?_
  refine nm_r (e' := nI (g + 1)) v1 ⟨pk_in g 6 (by omega) (nI_pred g), pk_in (g + 1) 6 (by omega), pk_in g 6 (by omega) (nI_pred g), nm_e (nm_r (e' := nI (m + 1)) (by rw [e2]; exact nI_1 m) (H _ _ ?_))⟩
  have lo : ∀ {b y t : Nat → Int32} {q q' : Int32}, rx_sh (B (g + 1)) l b y → rx_sh (B g) (l + 1) (upd y (B (g + 1)) q) t → ∀ p, p < B g → upd t (B g) q' p = b p := by
    intro b y t q q' hs hu p hp
    rw [pk_un (by omega), hu.1 p (by omega), pk_un (by omega)]
    exact hs.1 p (by omega)
  have mid : ∀ {b y t : Nat → Int32} {q q' : Int32}, rx_sh (B (g + 1)) l b y → rx_sh (B g) (l + 1) (upd y (B (g + 1)) q) t → ∀ k, k < B (g + 1) - B g → upd t (B g) q' (B g + (1 + k)) = b (B g + k) := by
    intro b y t q q' hs hu k hk
    rw [pk_un (by omega), show B g + (1 + k) = (B g + k) + 1 by omega, hu.2 _ (by omega) (by omega), pk_un (by omega)]
    exact hs.1 _ (by omega)
  have jmp : ∀ {b y t : Nat → Int32} {q q' : Int32}, rx_sh (B (g + 1)) l b y → rx_sh (B g) (l + 1) (upd y (B (g + 1)) q) t → upd t (B g) q' (B g + (B (g + 1) - B g + 1)) = q := by
    intro b y t q q' hs hu
    rw [pk_un (by omega), show B g + (B (g + 1) - B g + 1) = B (g + 1) + 1 by omega, hu.2 _ (by omega) (by omega)]
    exact pk_us
  have up : ∀ {b y t : Nat → Int32} {q q' : Int32}, rx_sh (B (g + 1)) l b y → rx_sh (B g) (l + 1) (upd y (B (g + 1)) q) t → ∀ k, k < l - B (g + 1) → upd t (B g) q' (B g + (B (g + 1) - B g + 2 + k)) = b (B (g + 1) + k) := by
    intro b y t q q' hs hu k hk
    rw [pk_un (by omega), show B g + (B (g + 1) - B g + 2 + k) = (B (g + 1) + k + 1) + 1 by omega, hu.2 _ (by omega) (by omega), pk_un (by omega)]
    exact hs.2 _ (by omega) (by omega)
  obtain ⟨B', hB'⟩ := rx_B_top (t := g) (m' := m + 1) (l' := l + 1 + 1) (x1 := b1) (x3 := upd t3 (B g) 1) (x4 := upd t4 (B g) 1) (x5 := upd t5 (B g) (nI (B (g + 1) - B g) + 2)) hB (by omega) (by omega) (by omega) (by omega) (by omega) (by omega) (fun i hi => rfl) (k6 g (by omega)) (fun p hp => ⟨lo s3 u3 p hp, lo s4 u4 p hp, lo s5 u5 p hp⟩) (by
    have e : l + 1 + 1 - B g = (B (g + 1) - B g) + (l - B (g + 1)) + 2 := by omega
    rw [e]
    refine rx_FR_mono (rx_FR_alt f1 f2 ⟨pk_us, pk_us, ?_⟩ (fun k hk => ⟨mid s3 u3 k hk, mid s4 u4 k hk, mid s5 u5 k hk⟩) ⟨jmp s3 u3, ?_⟩ (fun k hk => ⟨up s3 u3 k hk, up s4 u4 k hk, up s5 u5 k hk⟩)) (by omega)
    · show upd t5 (B g) (nI (B (g + 1) - B g) + 2) (B g + 0) = _
      exact (pk_us (f := t5) (k := B g)).trans (nI_add _ 2)
    · exact (jmp s4 u4).trans (nI_1 _))
  exact ⟨B', g + 1, m + 1, l + 1 + 1, n, rfl, rfl, rfl, e4, hn, hB', hU⟩
/-- a pattern with one instruction put ahead and one behind -/
theorem rx_wrap {B : Nat → Nat} {g l : Nat} {b t : Nat → Int32} {q q' : Int32} (o : B g ≤ l) (hs : rx_sh (B g) l b t) :
    (∀ p, p < B g → upd (upd t (B g) q) (l + 1) q' p = b p) ∧ upd (upd t (B g) q) (l + 1) q' (B g + 0) = q ∧ (∀ k, k < l - B g → upd (upd t (B g) q) (l + 1) q' (B g + (1 + k)) = b (B g + k)) ∧ upd (upd t (B g) q) (l + 1) q' (B g + (l - B g + 1)) = q' := by
  refine ⟨fun p hp => ?_, ?_, fun k hk => ?_, ?_⟩
  · rw [pk_un (by omega), pk_un (by omega)]
    exact hs.1 p (by omega)
  · rw [pk_un (by omega)]
    exact pk_us
  · rw [pk_un (by omega), pk_un (by omega), show B g + (1 + k) = (B g + k) + 1 by omega]
    exact hs.2 _ (by omega) (by omega)
  · rw [show B g + (l - B g + 1) = l + 1 by omega]
    exact pk_us
theorem rx_repeat {post : Int32 → St1 → Prop} {u : St1} {p0 : Int32} (hI : rx_I u) (H : ∀ r u', rx_I u' → post r u') : wpX_repeat post u p0 := by
  obtain ⟨hh, mm, ll, zz, nn, cc, dd, ww, ee, b1, b2, b3, b4, b5, b6, b7, b8, b9, b10, b11, b12, b13, b14, b15, b16, b17, b18, b19⟩ := u
  obtain ⟨B, h, m, l, n, e1, e2, e3, e4, hn, hB, hU⟩ := hI
  have hI0 : rx_I (hh, mm, ll, zz, nn, cc, dd, ww, ee, b1, b2, b3, b4, b5, b6, b7, b8, b9, b10, b11, b12, b13, b14, b15, b16, b17, b18, b19) := ⟨B, h, m, l, n, e1, e2, e3, e4, hn, hB, hU⟩
  obtain ⟨k1, k2, k3, k4, k5, k6, k7⟩ := id hB
  unfold wpX_repeat
  refine rx_refused (q := 1) e1 e2 rfl k1 k2 (by omega) (fun z1 z2 => br_t (by decide) ?_) (fun r hr => br_f hr (H _ _ hI0))
  obtain ⟨g, rfl⟩ : ∃ g, h = g + 1 := ⟨h - 1, by omega⟩
  have f1 := k7 g (by omega)
  have o1 := k5 g (g + 1) (by omega) (by omega)
  rw [k4] at f1 o1
  have v1 : hh - 1 = nI g := by rw [e1]; exact nI_pred g
  have y1 : b1 (hh - 1).toNatClampNeg = nI (B g) := by rw [v1, nI_clamp (by omega)]; exact k6 g (by omega)
  refine ⟨pk_in g 6 (by omega) v1, nm_r y1 (nm_r (e' := nI (l - B g)) (by rw [e3]; exact pk_sub o1) ?_)⟩
  refine rx_open o1 (by omega) e3 rfl rfl (fun t3 t4 t5 s3 s4 s5 => ?_)
  have fin : ∀ z0 : Int32, (z0 = 5 ∨ z0 = 6) → wX_repeat_50 post (nI (l - B g)) z0 (nI (B g)) hh mm (nI (l + 1)) zz nn cc dd ww ee b1 b2 t3 t4 t5 b6 b7 b8 b9 b10 b11 b12 b13 b14 b15 b16 b17 b18 b19 := by
    intro z0 hz
    refine rx_put (x := B g) (by omega) rfl ?_
    refine rx_emit (l := l + 1) (by omega) rfl (nm_r (e' := nI (m + 1)) (by rw [e2]; exact nI_1 m) (H _ _ ?_))
    obtain ⟨a1, a2, a3, a4⟩ := rx_wrap (q := z0) (q' := 7) o1 s3
    obtain ⟨c1, c2, c3, c4⟩ := rx_wrap (q := 1) (q' := -nI (l - B g) - 1) o1 s4
    obtain ⟨d1, d2, d3, d4⟩ := rx_wrap (q := nI (l - B g) + 2) (q' := 0) o1 s5
    obtain ⟨B', hB'⟩ := rx_B_top (t := g) (m' := m + 1) (l' := l + 1 + 1) (x1 := b1) (x3 := upd (upd t3 (B g) z0) (l + 1) 7) (x4 := upd (upd t4 (B g) 1) (l + 1) (-nI (l - B g) - 1)) (x5 := upd (upd t5 (B g) (nI (l - B g) + 2)) (l + 1) 0) hB (by omega) (by omega) (by omega) (by omega) (by omega) (by omega) (fun i hi => rfl) (k6 g (by omega)) (fun p hp => ⟨a1 p hp, c1 p hp, d1 p hp⟩) (by
      have e : l + 1 + 1 - B g = (l - B g) + 2 := by omega
      rw [e]
      refine rx_FR_star f1 ⟨?_, c2, d2.trans (nI_add _ 2)⟩ (fun k hk => ⟨a3 k hk, c3 k hk, d3 k hk⟩) ⟨a4, c4⟩
      rcases hz with y | y
      · exact Or.inl (a2.trans y)
      · exact Or.inr (a2.trans y))
    exact ⟨B', g + 1, m + 1, l + 1 + 1, n, e1, rfl, rfl, e4, hn, hB', hU⟩
  exact br_c (fun _ => fin 6 (Or.inr rfl)) (fun _ => fin 5 (Or.inl rfl))
theorem rx_lazy {post : Int32 → St1 → Prop} {u : St1} (hI : rx_I u) (H : ∀ r u', rx_I u' → post r u') : wpX_lazy post u := by
  obtain ⟨hh, mm, ll, zz, nn, cc, dd, ww, ee, b1, b2, b3, b4, b5, b6, b7, b8, b9, b10, b11, b12, b13, b14, b15, b16, b17, b18, b19⟩ := u
  refine rx_repeat hI ?_
  rintro r ⟨hhx, mmx, llx, zzx, nnx, ccx, ddx, wwx, eex, b1x, b2x, b3x, b4x, b5x, b6x, b7x, b8x, b9x, b10x, b11x, b12x, b13x, b14x, b15x, b16x, b17x, b18x, b19x⟩ h
  exact H _ _ h
theorem rx_star {post : Int32 → St1 → Prop} {u : St1} (hI : rx_I u) (H : ∀ r u', rx_I u' → post r u') : wpX_star post u := by
  obtain ⟨hh, mm, ll, zz, nn, cc, dd, ww, ee, b1, b2, b3, b4, b5, b6, b7, b8, b9, b10, b11, b12, b13, b14, b15, b16, b17, b18, b19⟩ := u
  refine rx_repeat hI ?_
  rintro r ⟨hhx, mmx, llx, zzx, nnx, ccx, ddx, wwx, eex, b1x, b2x, b3x, b4x, b5x, b6x, b7x, b8x, b9x, b10x, b11x, b12x, b13x, b14x, b15x, b16x, b17x, b18x, b19x⟩ h
  exact H _ _ h
theorem rx_group {post : Int32 → St1 → Prop} {u : St1} {p0 : Int32} (hI : rx_I u) (H : ∀ r u', rx_I u' → post r u') : wpX_group post u p0 := by
  obtain ⟨hh, mm, ll, zz, nn, cc, dd, ww, ee, b1, b2, b3, b4, b5, b6, b7, b8, b9, b10, b11, b12, b13, b14, b15, b16, b17, b18, b19⟩ := u
  obtain ⟨B, h, m, l, n, e1, e2, e3, e4, hn, hB, hU⟩ := hI
  have hI0 : rx_I (hh, mm, ll, zz, nn, cc, dd, ww, ee, b1, b2, b3, b4, b5, b6, b7, b8, b9, b10, b11, b12, b13, b14, b15, b16, b17, b18, b19) := ⟨B, h, m, l, n, e1, e2, e3, e4, hn, hB, hU⟩
  obtain ⟨k1, k2, k3, k4, k5, k6, k7⟩ := id hB
  refine br_c (fun _ => H _ _ hI0) (fun p1 => br_c (fun p2 => ?_) (fun _ => H _ _ hI0))
  obtain ⟨a, ha, hp0⟩ := nI_of2 (n := 2) (by decide) p1 p2
  subst hp0
  refine rx_refused (q := 1) e1 e2 rfl k1 k2 (by omega) (fun z1 z2 => br_t (by decide) ?_) (fun r hr => br_f hr (H _ _ hI0))
  obtain ⟨g, rfl⟩ : ∃ g, h = g + 1 := ⟨h - 1, by omega⟩
  have f1 := k7 g (by omega)
  have o1 := k5 g (g + 1) (by omega) (by omega)
  rw [k4] at f1 o1
  have v1 : hh - 1 = nI g := by rw [e1]; exact nI_pred g
  have y1 : b1 (hh - 1).toNatClampNeg = nI (B g) := by rw [v1, nI_clamp (by omega)]; exact k6 g (by omega)
  have i6 : vp_in (hh - 1) 6 := pk_in g 6 (by omega) v1
  refine ⟨i6, br_c (fun _ => H _ _ hI0) (fun _ => ⟨i6, i6, nm_e ⟨i6, nm_r y1 ?_⟩⟩)⟩
  refine rx_open o1 (by omega) e3 rfl rfl (fun t3 t4 t5 s3 s4 s5 => ?_)
  refine rx_put (x := B g) (by omega) rfl ?_
  refine rx_emit (l := l + 1) (by omega) rfl (nm_r (e' := nI (m + 1)) (by rw [e2]; exact nI_1 m) (H _ _ ?_))
  obtain ⟨a1, a2, a3, a4⟩ := rx_wrap (q := 3) (q' := 3) o1 s3
  obtain ⟨c1, c2, c3, c4⟩ := rx_wrap (q := 3 + nI a) (q' := nI a) o1 s4
  obtain ⟨d1, d2, d3, d4⟩ := rx_wrap (q := 0) (q' := 0) o1 s5
  obtain ⟨B', hB'⟩ := rx_B_top (t := g) (m' := m + 1) (l' := l + 1 + 1) (x1 := b1) (x3 := upd (upd t3 (B g) 3) (l + 1) 3) (x4 := upd (upd t4 (B g) (3 + nI a)) (l + 1) (nI a)) (x5 := upd (upd t5 (B g) 0) (l + 1) 0) hB (by omega) (by omega) (by omega) (by omega) (by omega) (by omega) (fun i hi => rfl) (k6 g (by omega)) (fun p hp => ⟨a1 p hp, c1 p hp, d1 p hp⟩) (by
    have e : l + 1 + 1 - B g = (l - B g) + 2 := by omega
    rw [e]
    exact rx_FR_mono (rx_FR_group (g := a) (by omega) f1 ⟨a2, c2.trans (nI_add 3 a)⟩ (fun k hk => ⟨a3 k hk, c3 k hk, d3 k hk⟩) ⟨a4, c4⟩) (by omega))
  exact ⟨B', g + 1, m + 1, l + 1 + 1, n, e1, rfl, rfl, e4, hn, hB', hU⟩
theorem rx_define {post : Int32 → St1 → Prop} {u : St1} (hI : rx_I u) (H : ∀ r u', rx_I u' → post r u') : wpX_define post u := by
  obtain ⟨hh, mm, ll, zz, nn, cc, dd, ww, ee, b1, b2, b3, b4, b5, b6, b7, b8, b9, b10, b11, b12, b13, b14, b15, b16, b17, b18, b19⟩ := u
  obtain ⟨B, h, m, l, n, e1, e2, e3, e4, hn, hB, hU⟩ := hI
  have hI0 : rx_I (hh, mm, ll, zz, nn, cc, dd, ww, ee, b1, b2, b3, b4, b5, b6, b7, b8, b9, b10, b11, b12, b13, b14, b15, b16, b17, b18, b19) := ⟨B, h, m, l, n, e1, e2, e3, e4, hn, hB, hU⟩
  obtain ⟨k1, k2, k3, k4, k5, k6, k7⟩ := id hB
  refine pk_eq h 0 (fun _ => H _ _ hI0) (fun z => ?_) e1 rfl
  obtain ⟨g, rfl⟩ : ∃ g, h = g + 1 := ⟨h - 1, by omega⟩
  have f1 := k7 g (by omega)
  have o1 := k5 g (g + 1) (by omega) (by omega)
  rw [k4] at f1 o1
  have v1 : hh - 1 = nI g := by rw [e1]; exact nI_pred g
  have y1 : b1 (hh - 1).toNatClampNeg = nI (B g) := by rw [v1, nI_clamp (by omega)]; exact k6 g (by omega)
  refine ⟨pk_in g 6 (by omega) v1, nm_r y1 ?_⟩
  subst e3
  refine pk_loop (σ := (Nat → Int32) × (Nat → Int32) × (Nat → Int32)) (fun k i y => wX_define_29 post hh mm (nI l) nn cc dd ww ee k (nI (B g + i)) (nI i) b1 b2 b3 b4 b5 y.1 y.2.1 y.2.2 b9 b10 b11 b12 b13 b14 b15 b16 b17 b18 b19) (fun i y => ∀ j, j < i → y.1 j = b3 (B g + j) ∧ y.2.1 j = b4 (B g + j) ∧ y.2.2 j = b5 (B g + j)) (l - B g) 0 (b6, b7, b8) (by omega) (fun j hj => absurd hj (by omega)) ?_ ?_
  · intro k y hy
    refine pk_le l (B g + (l - B g)) (fun _ => ⟨pk_in (l - B g) 64 (by omega), nm_r (e' := upd y.1 (l - B g) 4) (by rw [nI_clamp (by omega)]) (nm_r (nI_1 _) (H _ _ ?_))⟩) (fun z => absurd z (by omega))
    refine ⟨fun _ => 0, 0, 0, 0, n, rfl, rfl, rfl, e4, hn, rx_B_0, l - B g, by omega, rx_FR_mono (rx_FR_congr f1 (fun j hj => ?_)) k2, pk_us⟩
    obtain ⟨q1, q2, q3⟩ := hy j hj
    exact ⟨(pk_un (by omega)).trans q1, q2, q3⟩
  · intro k i y hi hy hw
    have ecl : (nI (B g + i)).toNatClampNeg = B g + i := nI_clamp (by omega)
    have ecl2 : (nI i).toNatClampNeg = i := nI_clamp (by omega)
    have i1 : vp_in (nI (B g + i)) 64 := pk_in (B g + i) 64 (by omega)
    have i2 : vp_in (nI i) 64 := pk_in i 64 (by omega)
    refine pk_le l (B g + i) (fun z => absurd z (by omega)) (fun _ => ⟨i1, i2, nm_r (e' := upd y.1 i (b3 (B g + i))) (by rw [ecl, ecl2]) ⟨i1, i2, nm_r (e' := upd y.2.1 i (b4 (B g + i))) (by rw [ecl, ecl2]) ⟨i1, i2, nm_r (e' := upd y.2.2 i (b5 (B g + i))) (by rw [ecl, ecl2]) (nm_r (nI_1 i) (nm_r (nI_1 (B g + i)) (hw (upd y.1 i (b3 (B g + i)), upd y.2.1 i (b4 (B g + i)), upd y.2.2 i (b5 (B g + i))) (fun j hj => ?_))))⟩⟩⟩)
    by_cases e : j = i
    · rw [e]
      exact ⟨pk_us, pk_us, pk_us⟩
    · obtain ⟨q1, q2, q3⟩ := hy j (by omega)
      exact ⟨(pk_un e).trans q1, (pk_un e).trans q2, (pk_un e).trans q3⟩
theorem rx_feed {post : Int32 → St1 → Prop} {u : St1} {p0 : Int32} (hI : rx_I u) (H : ∀ r u', rx_I u' → post r u') : wpX_feed post u p0 := by
  obtain ⟨hh, mm, ll, zz, nn, cc, dd, ww, ee, b1, b2, b3, b4, b5, b6, b7, b8, b9, b10, b11, b12, b13, b14, b15, b16, b17, b18, b19⟩ := u
  obtain ⟨B, h, m, l, n, e1, e2, e3, e4, hn, hB, hU⟩ := hI
  have hI0 : rx_I (hh, mm, ll, zz, nn, cc, dd, ww, ee, b1, b2, b3, b4, b5, b6, b7, b8, b9, b10, b11, b12, b13, b14, b15, b16, b17, b18, b19) := ⟨B, h, m, l, n, e1, e2, e3, e4, hn, hB, hU⟩
  refine br_c (fun _ => H _ _ hI0) (fun _ => br_c (fun _ => ?_) (fun _ => H _ _ hI0))
  refine pk_eq n 10 (fun _ => H _ _ hI0) (fun z => ⟨pk_in n 10 (by omega) e4, nm_e (nm_r (e' := nI (n + 1)) (by rw [e4]; exact nI_1 n) (H _ _ ?_))⟩) e4 rfl
  exact ⟨B, h, m, l, n + 1, e1, e2, e3, rfl, by omega, hB, hU⟩
theorem rx_erase {post : St1 → Prop} {u : St1} (hI : rx_I u) (H : ∀ u', rx_I u' → post u') : wpX_erase post u := by
  obtain ⟨hh, mm, ll, zz, nn, cc, dd, ww, ee, b1, b2, b3, b4, b5, b6, b7, b8, b9, b10, b11, b12, b13, b14, b15, b16, b17, b18, b19⟩ := u
  obtain ⟨B, h, m, l, n, e1, e2, e3, e4, hn, hB, hU⟩ := hI
  exact H _ ⟨B, h, m, l, 0, e1, e2, e3, rfl, by omega, hB, hU⟩
theorem rx_discard {post : St1 → Prop} {u : St1} (hI : rx_I u) (H : ∀ u', rx_I u' → post u') : wpX_discard post u := by
  obtain ⟨hh, mm, ll, zz, nn, cc, dd, ww, ee, b1, b2, b3, b4, b5, b6, b7, b8, b9, b10, b11, b12, b13, b14, b15, b16, b17, b18, b19⟩ := u
  obtain ⟨B, h, m, l, n, e1, e2, e3, e4, hn, hB, hU⟩ := hI
  exact H _ ⟨fun _ => 0, 0, 0, 0, n, rfl, rfl, rfl, e4, hn, rx_B_0, hU⟩
theorem rx_turn {post : Int32 → St1 → Prop} {u : St1} {p1 p2 : Int32} (hI : rx_I u) (H : ∀ r u', rx_I u' → post r u') : wpL_turn post u p1 p2 := by
  obtain ⟨hh, mm, ll, zz, nn, cc, dd, ww, ee, b1, b2, b3, b4, b5, b6, b7, b8, b9, b10, b11, b12, b13, b14, b15, b16, b17, b18, b19⟩ := u
  refine nm_e ⟨by decide, nm_e ?_⟩
  refine br_c (fun _ => br_c (fun _ => br_c (fun _ => rx_empty hI ?_) (fun _ => rx_any hI ?_)) (fun _ => br_c (fun _ => br_c (fun _ => br_c (fun _ => br_c (fun _ => br_c (fun _ => br_c (fun _ => br_c (fun _ => br_c (fun _ => rx_erase hI ?_) (fun _ => br_c (fun _ => rx_discard hI ?_) (fun _ => H _ _ hI))) (fun _ => rx_feed hI ?_)) (fun _ => rx_define hI ?_)) (fun _ => rx_group hI ?_)) (fun _ => rx_lazy hI ?_)) (fun _ => rx_star hI ?_)) (fun _ => rx_alt hI ?_)) (fun _ => rx_cat hI ?_))) (fun _ => rx_letter hI ?_)
  · rintro r ⟨hhx, mmx, llx, zzx, nnx, ccx, ddx, wwx, eex, b1x, b2x, b3x, b4x, b5x, b6x, b7x, b8x, b9x, b10x, b11x, b12x, b13x, b14x, b15x, b16x, b17x, b18x, b19x⟩ h
    exact H _ _ h
  · rintro r ⟨hhx, mmx, llx, zzx, nnx, ccx, ddx, wwx, eex, b1x, b2x, b3x, b4x, b5x, b6x, b7x, b8x, b9x, b10x, b11x, b12x, b13x, b14x, b15x, b16x, b17x, b18x, b19x⟩ h
    exact H _ _ h
  · rintro ⟨hhx, mmx, llx, zzx, nnx, ccx, ddx, wwx, eex, b1x, b2x, b3x, b4x, b5x, b6x, b7x, b8x, b9x, b10x, b11x, b12x, b13x, b14x, b15x, b16x, b17x, b18x, b19x⟩ h
    exact H _ _ h
  · rintro ⟨hhx, mmx, llx, zzx, nnx, ccx, ddx, wwx, eex, b1x, b2x, b3x, b4x, b5x, b6x, b7x, b8x, b9x, b10x, b11x, b12x, b13x, b14x, b15x, b16x, b17x, b18x, b19x⟩ h
    exact H _ _ h
  · rintro r ⟨hhx, mmx, llx, zzx, nnx, ccx, ddx, wwx, eex, b1x, b2x, b3x, b4x, b5x, b6x, b7x, b8x, b9x, b10x, b11x, b12x, b13x, b14x, b15x, b16x, b17x, b18x, b19x⟩ h
    exact H _ _ h
  · rintro r ⟨hhx, mmx, llx, zzx, nnx, ccx, ddx, wwx, eex, b1x, b2x, b3x, b4x, b5x, b6x, b7x, b8x, b9x, b10x, b11x, b12x, b13x, b14x, b15x, b16x, b17x, b18x, b19x⟩ h
    exact H _ _ h
  · rintro r ⟨hhx, mmx, llx, zzx, nnx, ccx, ddx, wwx, eex, b1x, b2x, b3x, b4x, b5x, b6x, b7x, b8x, b9x, b10x, b11x, b12x, b13x, b14x, b15x, b16x, b17x, b18x, b19x⟩ h
    exact H _ _ h
  · rintro r ⟨hhx, mmx, llx, zzx, nnx, ccx, ddx, wwx, eex, b1x, b2x, b3x, b4x, b5x, b6x, b7x, b8x, b9x, b10x, b11x, b12x, b13x, b14x, b15x, b16x, b17x, b18x, b19x⟩ h
    exact H _ _ h
  · rintro r ⟨hhx, mmx, llx, zzx, nnx, ccx, ddx, wwx, eex, b1x, b2x, b3x, b4x, b5x, b6x, b7x, b8x, b9x, b10x, b11x, b12x, b13x, b14x, b15x, b16x, b17x, b18x, b19x⟩ h
    exact H _ _ h
  · rintro r ⟨hhx, mmx, llx, zzx, nnx, ccx, ddx, wwx, eex, b1x, b2x, b3x, b4x, b5x, b6x, b7x, b8x, b9x, b10x, b11x, b12x, b13x, b14x, b15x, b16x, b17x, b18x, b19x⟩ h
    exact H _ _ h
  · rintro r ⟨hhx, mmx, llx, zzx, nnx, ccx, ddx, wwx, eex, b1x, b2x, b3x, b4x, b5x, b6x, b7x, b8x, b9x, b10x, b11x, b12x, b13x, b14x, b15x, b16x, b17x, b18x, b19x⟩ h
    exact H _ _ h
  · rintro r ⟨hhx, mmx, llx, zzx, nnx, ccx, ddx, wwx, eex, b1x, b2x, b3x, b4x, b5x, b6x, b7x, b8x, b9x, b10x, b11x, b12x, b13x, b14x, b15x, b16x, b17x, b18x, b19x⟩ h
    exact H _ _ h
end
section
section
variable {n : Nat} {c f s tx : Nat → Int32} {D : Nat → Nat} {G : Nat → Nat → Prop} {L : Nat}
theorem rx_nI_m4 {a : Nat} (h : a < 2 ^ 31) : ¬ nI a = -4 := fun z => nI_pos h (by rw [z]; decide)
theorem rx_fst (q : Nat → Option (Nat × (Nat → Int32))) (m : Nat) : ∀ k i : Nat, k = m + 1 - i → (∀ a, i ≤ a → a ≤ m → q a = none) ∨ ∃ i0 x, i ≤ i0 ∧ i0 ≤ m ∧ q i0 = some x ∧ ∀ a, i ≤ a → a < i0 → q a = none := by
  intro k
  induction k with
  | zero => exact fun i hk => Or.inl (fun a h1 h2 => absurd h1 (by omega))
  | succ k ih =>
    intro i hk
    cases e : q i with
    | some x => exact Or.inr ⟨i, x, Nat.le_refl _, by omega, e, fun a h1 h2 => absurd h1 (by omega)⟩
    | none =>
      rcases ih (i + 1) (by omega) with z | ⟨i0, x, h1, h2, h3, h4⟩
      · refine Or.inl (fun a h1 h2 => ?_)
        by_cases ea : a = i
        · rw [ea]
          exact e
        · exact z a (by omega) h2
      · refine Or.inr ⟨i0, x, by omega, h2, h3, fun a h5 h6 => ?_⟩
        by_cases ea : a = i
        · rw [ea]
          exact e
        · exact h4 a (by omega) h6
theorem rx_ffN2 {post : Int32 → St1 → Prop} (hP : rx_PW c f s D G L) (hn : n ≤ 10) (H : ∀ u', rx_K n c f s tx u' → post (-4) u') : ∀ (k i : Nat) (hh mm ll zz nn cc dd ww ee : Int32) (b1 b2 b3 b4 b5 b6 b7 b8 b9 b10 b11 b12 b13 b14 b15 b16 b17 b18 b19 : Nat → Int32), k = n + 1 - i → i ≤ n + 1 → (∀ a, i ≤ a → a ≤ n → rx_se c f s n tx a (-1) = none) → rx_K n c f s tx (hh, mm, ll, zz, nn, cc, dd, ww, ee, b1, b2, b3, b4, b5, b6, b7, b8, b9, b10, b11, b12, b13, b14, b15, b16, b17, b18, b19) → wX_findFrom_2 post (k + 1) (nI i) hh mm ll zz nn cc dd ww ee b1 b2 b3 b4 b5 b6 b7 b8 b9 b10 b11 b12 b13 b14 b15 b16 b17 b18 b19 := by
  intro k
  induction k with
  | zero =>
    intro i hh mm ll zz nn cc dd ww ee b1 b2 b3 b4 b5 b6 b7 b8 b9 b10 b11 b12 b13 b14 b15 b16 b17 b18 b19 hk hi hq hK
    exact pk_lt n i (fun _ => H _ hK) (fun z => absurd z (by omega)) hK.1 rfl
  | succ k ih =>
    intro i hh mm ll zz nn cc dd ww ee b1 b2 b3 b4 b5 b6 b7 b8 b9 b10 b11 b12 b13 b14 b15 b16 b17 b18 b19 hk hi hq hK
    refine pk_lt n i (fun z => absurd z (by omega)) (fun hin => rx_searchF hP hn hin hK ?_) hK.1 rfl
    rintro ⟨hhx, mmx, llx, zzx, nnx, ccx, ddx, wwx, eex, b1x, b2x, b3x, b4x, b5x, b6x, b7x, b8x, b9x, b10x, b11x, b12x, b13x, b14x, b15x, b16x, b17x, b18x, b19x⟩ hKx hR
    rw [hq i (Nat.le_refl _) hin] at hR
    have e : eex = -4 := hR
    exact br_t (by rw [e]; decide) (nm_r (nI_1 i) (ih (i + 1) _ _ _ _ _ _ _ _ _ _ _ _ _ _ _ _ _ _ _ _ _ _ _ _ _ _ _ _ (by omega) (by omega) (fun a h1 h2 => hq a (by omega) h2) hKx))
theorem rx_ffS2 {post : Int32 → St1 → Prop} {i0 : Nat} {x : Nat × (Nat → Int32)} (hP : rx_PW c f s D G L) (hn : n ≤ 10) (h2 : i0 ≤ n) (h3 : rx_se c f s n tx i0 (-1) = some x) (H : ∀ u', rx_K n c f s tx u' → rx_R (some x) u' → post (nI i0) u') : ∀ (k i : Nat) (hh mm ll zz nn cc dd ww ee : Int32) (b1 b2 b3 b4 b5 b6 b7 b8 b9 b10 b11 b12 b13 b14 b15 b16 b17 b18 b19 : Nat → Int32), k = i0 - i → i ≤ i0 → (∀ a, i ≤ a → a < i0 → rx_se c f s n tx a (-1) = none) → rx_K n c f s tx (hh, mm, ll, zz, nn, cc, dd, ww, ee, b1, b2, b3, b4, b5, b6, b7, b8, b9, b10, b11, b12, b13, b14, b15, b16, b17, b18, b19) → wX_findFrom_2 post (k + 1) (nI i) hh mm ll zz nn cc dd ww ee b1 b2 b3 b4 b5 b6 b7 b8 b9 b10 b11 b12 b13 b14 b15 b16 b17 b18 b19 := by
  have hx := rx_se_ok (j := x.1) (A := x.2) hP h2 h3
  intro k
  induction k with
  | zero =>
    intro i hh mm ll zz nn cc dd ww ee b1 b2 b3 b4 b5 b6 b7 b8 b9 b10 b11 b12 b13 b14 b15 b16 b17 b18 b19 hk hi hq hK
    have ei : i = i0 := by omega
    subst ei
    refine pk_lt n i (fun z => absurd z (by omega)) (fun hin => rx_searchF hP hn hin hK ?_) hK.1 rfl
    rintro ⟨hhx, mmx, llx, zzx, nnx, ccx, ddx, wwx, eex, b1x, b2x, b3x, b4x, b5x, b6x, b7x, b8x, b9x, b10x, b11x, b12x, b13x, b14x, b15x, b16x, b17x, b18x, b19x⟩ hKx hR
    rw [h3] at hR
    refine br_f ?_ (H _ hKx hR)
    have e : eex = nI x.1 := hR.1
    rw [e]
    exact nI_pos (by omega)
  | succ k ih =>
    intro i hh mm ll zz nn cc dd ww ee b1 b2 b3 b4 b5 b6 b7 b8 b9 b10 b11 b12 b13 b14 b15 b16 b17 b18 b19 hk hi hq hK
    refine pk_lt n i (fun z => absurd z (by omega)) (fun hin => rx_searchF hP hn hin hK ?_) hK.1 rfl
    rintro ⟨hhx, mmx, llx, zzx, nnx, ccx, ddx, wwx, eex, b1x, b2x, b3x, b4x, b5x, b6x, b7x, b8x, b9x, b10x, b11x, b12x, b13x, b14x, b15x, b16x, b17x, b18x, b19x⟩ hKx hR
    rw [hq i (Nat.le_refl _) (by omega)] at hR
    have e : eex = -4 := hR
    exact br_t (by rw [e]; decide) (nm_r (nI_1 i) (ih (i + 1) _ _ _ _ _ _ _ _ _ _ _ _ _ _ _ _ _ _ _ _ _ _ _ _ _ _ _ _ (by omega) (by omega) (fun a h1 h2 => hq a (by omega) h2) hKx))
theorem rx_ffN {post : Int32 → St1 → Prop} {u : St1} {i : Nat} (hP : rx_PW c f s D G L) (hn : n ≤ 10) (hi : i ≤ n + 1) (hq : ∀ a, i ≤ a → a ≤ n → rx_se c f s n tx a (-1) = none) (hK : rx_K n c f s tx u) (H : ∀ u', rx_K n c f s tx u' → post (-4) u') : wpX_findFrom post u (nI i) := by
  obtain ⟨hh, mm, ll, zz, nn, cc, dd, ww, ee, b1, b2, b3, b4, b5, b6, b7, b8, b9, b10, b11, b12, b13, b14, b15, b16, b17, b18, b19⟩ := u
  exact ⟨n + 1 - i + 1, rx_ffN2 hP hn H _ i _ _ _ _ _ _ _ _ _ _ _ _ _ _ _ _ _ _ _ _ _ _ _ _ _ _ _ _ rfl hi hq hK⟩
theorem rx_ffS {post : Int32 → St1 → Prop} {u : St1} {i i0 : Nat} {x : Nat × (Nat → Int32)} (hP : rx_PW c f s D G L) (hn : n ≤ 10) (h1 : i ≤ i0) (h2 : i0 ≤ n) (h3 : rx_se c f s n tx i0 (-1) = some x) (h4 : ∀ a, i ≤ a → a < i0 → rx_se c f s n tx a (-1) = none) (hK : rx_K n c f s tx u) (H : ∀ u', rx_K n c f s tx u' → rx_R (some x) u' → post (nI i0) u') : wpX_findFrom post u (nI i) := by
  obtain ⟨hh, mm, ll, zz, nn, cc, dd, ww, ee, b1, b2, b3, b4, b5, b6, b7, b8, b9, b10, b11, b12, b13, b14, b15, b16, b17, b18, b19⟩ := u
  exact ⟨i0 - i + 1, rx_ffS2 hP hn h2 h3 H _ i _ _ _ _ _ _ _ _ _ _ _ _ _ _ _ _ _ _ _ _ _ _ _ _ _ _ _ _ rfl h1 h4 hK⟩
theorem rx_off0 {post : Int32 → Prop} {hh mm ll zz nn cc dd ww ee : Int32} {b1 b2 b3 b4 b5 b6 b7 b8 b9 b10 b11 b12 b13 b14 b15 b16 b17 b18 b19 : Nat → Int32} {i : Nat} (hn : n ≤ 10) (hK : nn = nI n) (hi : i ≤ n) (H : post 0) : wpX_off post (hh, mm, ll, zz, nn, cc, dd, ww, ee, b1, b2, b3, b4, b5, b6, b7, b8, b9, b10, b11, b12, b13, b14, b15, b16, b17, b18, b19) (nI i) := by
  subst hK
  exact br_f (nI_pos (by omega)) (br_t (nI_le hi (by omega)) H)
theorem rx_off1 {post : Int32 → Prop} {hh mm ll zz nn cc dd ww ee : Int32} {b1 b2 b3 b4 b5 b6 b7 b8 b9 b10 b11 b12 b13 b14 b15 b16 b17 b18 b19 : Nat → Int32} {i : Nat} (hn : n ≤ 10) (hi10 : i ≤ 100) (hK : nn = nI n) (hi : n < i) (H : post 1) : wpX_off post (hh, mm, ll, zz, nn, cc, dd, ww, ee, b1, b2, b3, b4, b5, b6, b7, b8, b9, b10, b11, b12, b13, b14, b15, b16, b17, b18, b19) (nI i) := by
  subst hK
  exact br_f (nI_pos (by omega)) (br_f (nI_ge hi (by omega)) H)
theorem rx_findN {post : Int32 → St1 → Prop} {u : St1} {i : Nat} (hP : rx_PW c f s D G L) (hn : n ≤ 10) (hi : i ≤ n) (hq : ∀ a, i ≤ a → a ≤ n → rx_se c f s n tx a (-1) = none) (hK : rx_K n c f s tx u) (H : ∀ u', rx_K n c f s tx u' → post (-4) u') : wpX_find post u (nI i) := by
  obtain ⟨hh, mm, ll, zz, nn, cc, dd, ww, ee, b1, b2, b3, b4, b5, b6, b7, b8, b9, b10, b11, b12, b13, b14, b15, b16, b17, b18, b19⟩ := u
  unfold wpX_find
  refine rx_off0 hn hK.1 hi ?_
  refine br_t rfl (rx_ffN hP hn (by omega) hq hK ?_)
  rintro ⟨hhx, mmx, llx, zzx, nnx, ccx, ddx, wwx, eex, b1x, b2x, b3x, b4x, b5x, b6x, b7x, b8x, b9x, b10x, b11x, b12x, b13x, b14x, b15x, b16x, b17x, b18x, b19x⟩ h
  exact H _ h
theorem rx_findS {post : Int32 → St1 → Prop} {u : St1} {i i0 : Nat} {x : Nat × (Nat → Int32)} (hP : rx_PW c f s D G L) (hn : n ≤ 10) (h1 : i ≤ i0) (h2 : i0 ≤ n) (h3 : rx_se c f s n tx i0 (-1) = some x) (h4 : ∀ a, i ≤ a → a < i0 → rx_se c f s n tx a (-1) = none) (hK : rx_K n c f s tx u) (H : ∀ u', rx_K n c f s tx u' → post (nI i0) u') : wpX_find post u (nI i) := by
  obtain ⟨hh, mm, ll, zz, nn, cc, dd, ww, ee, b1, b2, b3, b4, b5, b6, b7, b8, b9, b10, b11, b12, b13, b14, b15, b16, b17, b18, b19⟩ := u
  unfold wpX_find
  refine rx_off0 hn hK.1 (by omega) ?_
  refine br_t rfl (rx_ffS hP hn h1 h2 h3 h4 hK ?_)
  rintro ⟨hhx, mmx, llx, zzx, nnx, ccx, ddx, wwx, eex, b1x, b2x, b3x, b4x, b5x, b6x, b7x, b8x, b9x, b10x, b11x, b12x, b13x, b14x, b15x, b16x, b17x, b18x, b19x⟩ h _
  exact H _ h
theorem rx_findO {post : Int32 → St1 → Prop} {u : St1} {w : Int32} (hn : n ≤ 10) (hw : w = nI (n + 1)) (hK : rx_K n c f s tx u) (H : ∀ u', rx_K n c f s tx u' → post (-4) u') : wpX_find post u w := by
  obtain ⟨hh, mm, ll, zz, nn, cc, dd, ww, ee, b1, b2, b3, b4, b5, b6, b7, b8, b9, b10, b11, b12, b13, b14, b15, b16, b17, b18, b19⟩ := u
  subst hw
  unfold wpX_find
  refine rx_off1 (i := n + 1) hn (by omega) hK.1 (by omega) ?_
  exact br_f (show ¬ (1 : Int32) = 0 by decide) (H _ hK)
theorem rx_endN {post : Int32 → St1 → Prop} {u : St1} {i : Nat} (hP : rx_PW c f s D G L) (hn : n ≤ 10) (hi : i ≤ n) (hq : ∀ a, i ≤ a → a ≤ n → rx_se c f s n tx a (-1) = none) (hK : rx_K n c f s tx u) (H : ∀ u', rx_K n c f s tx u' → post (-4) u') : wpX_end post u (nI i) := by
  obtain ⟨hh, mm, ll, zz, nn, cc, dd, ww, ee, b1, b2, b3, b4, b5, b6, b7, b8, b9, b10, b11, b12, b13, b14, b15, b16, b17, b18, b19⟩ := u
  unfold wpX_end
  refine rx_off0 hn hK.1 hi ?_
  refine br_t rfl (rx_ffN hP hn (by omega) hq hK ?_)
  rintro ⟨hhx, mmx, llx, zzx, nnx, ccx, ddx, wwx, eex, b1x, b2x, b3x, b4x, b5x, b6x, b7x, b8x, b9x, b10x, b11x, b12x, b13x, b14x, b15x, b16x, b17x, b18x, b19x⟩ h
  exact br_f (by decide) (H _ h)
theorem rx_endS {post : Int32 → St1 → Prop} {u : St1} {i i0 : Nat} {x : Nat × (Nat → Int32)} (hP : rx_PW c f s D G L) (hn : n ≤ 10) (h1 : i ≤ i0) (h2 : i0 ≤ n) (h3 : rx_se c f s n tx i0 (-1) = some x) (h4 : ∀ a, i ≤ a → a < i0 → rx_se c f s n tx a (-1) = none) (hK : rx_K n c f s tx u) (H : ∀ u', rx_K n c f s tx u' → post (nI x.1) u') : wpX_end post u (nI i) := by
  obtain ⟨hh, mm, ll, zz, nn, cc, dd, ww, ee, b1, b2, b3, b4, b5, b6, b7, b8, b9, b10, b11, b12, b13, b14, b15, b16, b17, b18, b19⟩ := u
  unfold wpX_end
  refine rx_off0 hn hK.1 (by omega) ?_
  refine br_t rfl (rx_ffS hP hn h1 h2 h3 h4 hK ?_)
  rintro ⟨hhx, mmx, llx, zzx, nnx, ccx, ddx, wwx, eex, b1x, b2x, b3x, b4x, b5x, b6x, b7x, b8x, b9x, b10x, b11x, b12x, b13x, b14x, b15x, b16x, b17x, b18x, b19x⟩ h hR
  refine br_t (nI_pos' (by omega)) ?_
  have e : eex = nI x.1 := hR.1
  have t := H _ h
  rw [← e] at t
  exact t
theorem rx_endO {post : Int32 → St1 → Prop} {u : St1} (hK : rx_K n c f s tx u) (H : ∀ u', rx_K n c f s tx u' → post (-4) u') : wpX_end post u (-1) := by
  obtain ⟨hh, mm, ll, zz, nn, cc, dd, ww, ee, b1, b2, b3, b4, b5, b6, b7, b8, b9, b10, b11, b12, b13, b14, b15, b16, b17, b18, b19⟩ := u
  exact br_t (show (-1 : Int32) < 0 by decide) (br_f (show ¬ (1 : Int32) = 0 by decide) (H _ hK))
theorem rx_grpN {post : Int32 → St1 → Prop} {u : St1} {i g : Nat} (hP : rx_PW c f s D G L) (hn : n ≤ 10) (hg : g < 3) (hi : i ≤ n) (hq : ∀ a, i ≤ a → a ≤ n → rx_se c f s n tx a (-1) = none) (hK : rx_K n c f s tx u) (H : ∀ u', rx_K n c f s tx u' → post (-4) u') : wpX_groupIn post u (nI i) (nI g) := by
  obtain ⟨hh, mm, ll, zz, nn, cc, dd, ww, ee, b1, b2, b3, b4, b5, b6, b7, b8, b9, b10, b11, b12, b13, b14, b15, b16, b17, b18, b19⟩ := u
  unfold wpX_groupIn
  refine rx_off0 hn hK.1 hi ?_
  refine br_t rfl (br_f (nI_pos (by omega)) (br_t (nI_le (a := g) (b := 2) (by omega) (by omega)) (rx_ffN hP hn (by omega) hq hK ?_)))
  rintro ⟨hhx, mmx, llx, zzx, nnx, ccx, ddx, wwx, eex, b1x, b2x, b3x, b4x, b5x, b6x, b7x, b8x, b9x, b10x, b11x, b12x, b13x, b14x, b15x, b16x, b17x, b18x, b19x⟩ h
  exact br_f (by decide) (H _ h)
theorem rx_grpS {post : Int32 → St1 → Prop} {u : St1} {i i0 g : Nat} {x : Nat × (Nat → Int32)} (hP : rx_PW c f s D G L) (hn : n ≤ 10) (hg : g < 3) (h1 : i ≤ i0) (h2 : i0 ≤ n) (h3 : rx_se c f s n tx i0 (-1) = some x) (h4 : ∀ a, i ≤ a → a < i0 → rx_se c f s n tx a (-1) = none) (hK : rx_K n c f s tx u) (H : ∀ u', rx_K n c f s tx u' → post (x.2 g) u') : wpX_groupIn post u (nI i) (nI g) := by
  obtain ⟨hh, mm, ll, zz, nn, cc, dd, ww, ee, b1, b2, b3, b4, b5, b6, b7, b8, b9, b10, b11, b12, b13, b14, b15, b16, b17, b18, b19⟩ := u
  unfold wpX_groupIn
  refine rx_off0 hn hK.1 (by omega) ?_
  refine br_t rfl (br_f (nI_pos (by omega)) (br_t (nI_le (a := g) (b := 2) (by omega) (by omega)) (rx_ffS hP hn h1 h2 h3 h4 hK ?_)))
  rintro ⟨hhx, mmx, llx, zzx, nnx, ccx, ddx, wwx, eex, b1x, b2x, b3x, b4x, b5x, b6x, b7x, b8x, b9x, b10x, b11x, b12x, b13x, b14x, b15x, b16x, b17x, b18x, b19x⟩ h hR
  refine br_t (nI_pos' (by omega)) ⟨pk_in g 6 (by omega), ?_⟩
  have e : b19x g = x.2 g := hR.2 g (by omega)
  have t := H _ h
  rw [← e] at t
  rw [nI_clamp (by omega)]
  exact t
theorem rx_spansT {post : Int32 → St1 → Prop} {u : St1} {i j : Nat} {A : Nat → Int32} (hP : rx_PW c f s D G L) (hn : n ≤ 10) (hi : i ≤ n) (hj : j ≤ n) (h : rx_se c f s n tx i (nI j) = some (j, A)) (hK : rx_K n c f s tx u) (H : ∀ u', rx_K n c f s tx u' → post 1 u') : wpX_spans post u (nI i) (nI j) := by
  obtain ⟨hh, mm, ll, zz, nn, cc, dd, ww, ee, b1, b2, b3, b4, b5, b6, b7, b8, b9, b10, b11, b12, b13, b14, b15, b16, b17, b18, b19⟩ := u
  unfold wpX_spans
  refine rx_off0 hn hK.1 hi ?_
  refine br_t rfl (rx_off0 hn hK.1 hj ?_)
  refine br_t rfl (rx_searchF hP hn hi hK ?_)
  rintro ⟨hhx, mmx, llx, zzx, nnx, ccx, ddx, wwx, eex, b1x, b2x, b3x, b4x, b5x, b6x, b7x, b8x, b9x, b10x, b11x, b12x, b13x, b14x, b15x, b16x, b17x, b18x, b19x⟩ h' hR
  rw [h] at hR
  exact br_t hR.1 (H _ h')
theorem rx_spansF {post : Int32 → St1 → Prop} {u : St1} {i j : Nat} (hP : rx_PW c f s D G L) (hn : n ≤ 10) (hi : i ≤ n) (hj : j ≤ 100) (h : rx_se c f s n tx i (-1) = none) (hK : rx_K n c f s tx u) (H : ∀ u', rx_K n c f s tx u' → post 0 u') : wpX_spans post u (nI i) (nI j) := by
  obtain ⟨hh, mm, ll, zz, nn, cc, dd, ww, ee, b1, b2, b3, b4, b5, b6, b7, b8, b9, b10, b11, b12, b13, b14, b15, b16, b17, b18, b19⟩ := u
  unfold wpX_spans
  refine rx_off0 hn hK.1 hi ?_
  refine br_t rfl ?_
  rcases Nat.lt_or_ge n j with z | z
  · refine rx_off1 hn hj hK.1 z ?_
    exact br_f (show ¬ (1 : Int32) = 0 by decide) (H _ hK)
  · refine rx_off0 hn hK.1 z ?_
    refine br_t rfl (rx_searchF hP hn hi hK ?_)
    rintro ⟨hhx, mmx, llx, zzx, nnx, ccx, ddx, wwx, eex, b1x, b2x, b3x, b4x, b5x, b6x, b7x, b8x, b9x, b10x, b11x, b12x, b13x, b14x, b15x, b16x, b17x, b18x, b19x⟩ h' hR
    rw [rx_se_no hP h] at hR
    have e : eex = -4 := hR
    exact br_f (fun y => rx_nI_m4 (a := j) (by omega) (by rw [← y]; exact e)) (H _ h')
theorem rx_sb10 {post : Int32 → St1 → Prop} {J2 : Int32 → Int32 → Int32 → Int32 → Int32 → Int32 → Int32 → Int32 → Int32 → Int32 → (Nat → Int32) → (Nat → Int32) → (Nat → Int32) → (Nat → Int32) → (Nat → Int32) → (Nat → Int32) → (Nat → Int32) → (Nat → Int32) → (Nat → Int32) → (Nat → Int32) → (Nat → Int32) → (Nat → Int32) → (Nat → Int32) → (Nat → Int32) → (Nat → Int32) → (Nat → Int32) → (Nat → Int32) → (Nat → Int32) → (Nat → Int32) → Prop} {x2 : Int32} {a : Nat} (hP : rx_PW c f s D G L) (hn : n ≤ 10) (ha : a ≤ n) (h : rx_se c f s n tx a (-1) = none) (H : ∀ (hh mm ll zz nn cc dd ww ee : Int32) (b1 b2 b3 b4 b5 b6 b7 b8 b9 b10 b11 b12 b13 b14 b15 b16 b17 b18 b19 : Nat → Int32), rx_K n c f s tx (hh, mm, ll, zz, nn, cc, dd, ww, ee, b1, b2, b3, b4, b5, b6, b7, b8, b9, b10, b11, b12, b13, b14, b15, b16, b17, b18, b19) → J2 (nI (a + 1)) hh mm ll zz nn cc dd ww ee b1 b2 b3 b4 b5 b6 b7 b8 b9 b10 b11 b12 b13 b14 b15 b16 b17 b18 b19) : ∀ (k b : Nat) (hh mm ll zz nn cc dd ww ee : Int32) (b1 b2 b3 b4 b5 b6 b7 b8 b9 b10 b11 b12 b13 b14 b15 b16 b17 b18 b19 : Nat → Int32), k = 11 - b → b ≤ 11 → rx_K n c f s tx (hh, mm, ll, zz, nn, cc, dd, ww, ee, b1, b2, b3, b4, b5, b6, b7, b8, b9, b10, b11, b12, b13, b14, b15, b16, b17, b18, b19) → wL_someBefore_10 post J2 x2 (nI a) (k + 1) (nI b) hh mm ll zz nn cc dd ww ee b1 b2 b3 b4 b5 b6 b7 b8 b9 b10 b11 b12 b13 b14 b15 b16 b17 b18 b19 := by
  intro k
  induction k with
  | zero =>
    intro b hh mm ll zz nn cc dd ww ee b1 b2 b3 b4 b5 b6 b7 b8 b9 b10 b11 b12 b13 b14 b15 b16 b17 b18 b19 hk hb hK
    exact pk_le 11 b (fun _ => nm_r (nI_1 a) (H _ _ _ _ _ _ _ _ _ _ _ _ _ _ _ _ _ _ _ _ _ _ _ _ _ _ _ _ hK)) (fun z => absurd z (by omega))
  | succ k ih =>
    intro b hh mm ll zz nn cc dd ww ee b1 b2 b3 b4 b5 b6 b7 b8 b9 b10 b11 b12 b13 b14 b15 b16 b17 b18 b19 hk hb hK
    refine pk_le 11 b (fun z => absurd z (by omega)) (fun _ => rx_spansF hP hn ha (by omega) h hK ?_)
    rintro ⟨hhx, mmx, llx, zzx, nnx, ccx, ddx, wwx, eex, b1x, b2x, b3x, b4x, b5x, b6x, b7x, b8x, b9x, b10x, b11x, b12x, b13x, b14x, b15x, b16x, b17x, b18x, b19x⟩ hKx
    exact br_t rfl (nm_r (nI_1 b) (ih (b + 1) _ _ _ _ _ _ _ _ _ _ _ _ _ _ _ _ _ _ _ _ _ _ _ _ _ _ _ _ (by omega) (by omega) hKx))
theorem rx_sb2 {post : Int32 → St1 → Prop} {i : Nat} (hP : rx_PW c f s D G L) (hn : n ≤ 10) (hi : i ≤ n + 1) (H : ∀ u', rx_K n c f s tx u' → post 0 u') : ∀ (k a : Nat) (hh mm ll zz nn cc dd ww ee : Int32) (b1 b2 b3 b4 b5 b6 b7 b8 b9 b10 b11 b12 b13 b14 b15 b16 b17 b18 b19 : Nat → Int32), k = i - a → a ≤ i → (∀ q, a ≤ q → q < i → rx_se c f s n tx q (-1) = none) → rx_K n c f s tx (hh, mm, ll, zz, nn, cc, dd, ww, ee, b1, b2, b3, b4, b5, b6, b7, b8, b9, b10, b11, b12, b13, b14, b15, b16, b17, b18, b19) → wL_someBefore_2 post (nI i) (k + 1) (nI a) hh mm ll zz nn cc dd ww ee b1 b2 b3 b4 b5 b6 b7 b8 b9 b10 b11 b12 b13 b14 b15 b16 b17 b18 b19 := by
  intro k
  induction k with
  | zero =>
    intro a hh mm ll zz nn cc dd ww ee b1 b2 b3 b4 b5 b6 b7 b8 b9 b10 b11 b12 b13 b14 b15 b16 b17 b18 b19 hk ha hq hK
    exact pk_le i a (fun _ => H _ hK) (fun z => absurd z (by omega))
  | succ k ih =>
    intro a hh mm ll zz nn cc dd ww ee b1 b2 b3 b4 b5 b6 b7 b8 b9 b10 b11 b12 b13 b14 b15 b16 b17 b18 b19 hk ha hq hK
    refine pk_le i a (fun z => absurd z (by omega)) (fun _ => ⟨11 - a + 1, ?_⟩)
    exact rx_sb10 hP hn (by omega) (hq a (Nat.le_refl _) (by omega)) (fun hhx mmx llx zzx nnx ccx ddx wwx eex b1x b2x b3x b4x b5x b6x b7x b8x b9x b10x b11x b12x b13x b14x b15x b16x b17x b18x b19x hKx => ih (a + 1) _ _ _ _ _ _ _ _ _ _ _ _ _ _ _ _ _ _ _ _ _ _ _ _ _ _ _ _ (by omega) (by omega) (fun q h1 h2 => hq q (by omega) h2) hKx) _ a _ _ _ _ _ _ _ _ _ _ _ _ _ _ _ _ _ _ _ _ _ _ _ _ _ _ _ _ rfl (by omega) hK
theorem rx_someB {post : Int32 → St1 → Prop} {u : St1} {a i : Nat} {w : Int32} (hP : rx_PW c f s D G L) (hn : n ≤ 10) (hi : i ≤ n + 1) (ha : a ≤ i) (hw : w = nI i) (hq : ∀ q, a ≤ q → q < i → rx_se c f s n tx q (-1) = none) (hK : rx_K n c f s tx u) (H : ∀ u', rx_K n c f s tx u' → post 0 u') : wpL_someBefore post u (nI a) w := by
  obtain ⟨hh, mm, ll, zz, nn, cc, dd, ww, ee, b1, b2, b3, b4, b5, b6, b7, b8, b9, b10, b11, b12, b13, b14, b15, b16, b17, b18, b19⟩ := u
  subst hw
  exact ⟨i - a + 1, rx_sb2 hP hn hi H _ a _ _ _ _ _ _ _ _ _ _ _ _ _ _ _ _ _ _ _ _ _ _ _ _ _ _ _ _ rfl ha hq hK⟩
/-- the rounds of count -/
theorem rx_count6 {post : Int32 → St1 → Prop} (hP : rx_PW c f s D G L) (hn : n ≤ 10) : ∀ (k r q i : Nat) (hh mm ll zz nn cc dd ww ee : Int32) (b1 b2 b3 b4 b5 b6 b7 b8 b9 b10 b11 b12 b13 b14 b15 b16 b17 b18 b19 : Nat → Int32), r + k = 11 → q ≤ r → i ≤ n + 1 → rx_K n c f s tx (hh, mm, ll, zz, nn, cc, dd, ww, ee, b1, b2, b3, b4, b5, b6, b7, b8, b9, b10, b11, b12, b13, b14, b15, b16, b17, b18, b19) → (∀ q', q ≤ q' → q' ≤ 11 → ∀ u', rx_K n c f s tx u' → post (nI q') u') → wX_count_6 post (k + 1) (nI q) (nI i) (nI r) hh mm ll zz nn cc dd ww ee b1 b2 b3 b4 b5 b6 b7 b8 b9 b10 b11 b12 b13 b14 b15 b16 b17 b18 b19 := by
  intro k
  induction k with
  | zero =>
    intro r q i hh mm ll zz nn cc dd ww ee b1 b2 b3 b4 b5 b6 b7 b8 b9 b10 b11 b12 b13 b14 b15 b16 b17 b18 b19 hr hq hi hK H
    exact pk_lt 10 r (fun _ => H q (Nat.le_refl _) (by omega) _ hK) (fun z => absurd z (by omega))
  | succ k ih =>
    intro r q i hh mm ll zz nn cc dd ww ee b1 b2 b3 b4 b5 b6 b7 b8 b9 b10 b11 b12 b13 b14 b15 b16 b17 b18 b19 hr hq hi hK H
    refine pk_lt 10 r (fun z => absurd z (by omega)) (fun _ => ?_)
    refine pk_lt n i (fun _ => H q (Nat.le_refl _) (by omega) _ hK) (fun hin => ?_) hK.1 rfl
    rcases rx_fst (fun a => rx_se c f s n tx a (-1)) n _ i rfl with z | ⟨i0, x, h1, h2, h3, h4⟩
    · refine rx_ffN hP hn hi z hK ?_
      rintro ⟨hhx, mmx, llx, zzx, nnx, ccx, ddx, wwx, eex, b1x, b2x, b3x, b4x, b5x, b6x, b7x, b8x, b9x, b10x, b11x, b12x, b13x, b14x, b15x, b16x, b17x, b18x, b19x⟩ hKx
      exact br_f (by decide) (H q (Nat.le_refl _) (by omega) _ hKx)
    · have hx := rx_se_ok (j := x.1) (A := x.2) hP h2 h3
      refine rx_ffS hP hn h1 h2 h3 h4 hK ?_
      rintro ⟨hhx, mmx, llx, zzx, nnx, ccx, ddx, wwx, eex, b1x, b2x, b3x, b4x, b5x, b6x, b7x, b8x, b9x, b10x, b11x, b12x, b13x, b14x, b15x, b16x, b17x, b18x, b19x⟩ hKx hR
      have e : eex = nI x.1 := hR.1
      subst e
      refine br_t (nI_pos' (by omega)) (nm_r (nI_1 q) (pk_le x.1 i0 (fun _ => nm_r (nI_1 x.1) (nm_r (nI_1 r) ?_)) (fun _ => nm_r (nI_1 r) ?_)))
      · exact ih (r + 1) (q + 1) (x.1 + 1) _ _ _ _ _ _ _ _ _ _ _ _ _ _ _ _ _ _ _ _ _ _ _ _ _ _ _ _ (by omega) (by omega) (by omega) hKx (fun q' h => H q' (by omega))
      · exact ih (r + 1) (q + 1) x.1 _ _ _ _ _ _ _ _ _ _ _ _ _ _ _ _ _ _ _ _ _ _ _ _ _ _ _ _ (by omega) (by omega) (by omega) hKx (fun q' h => H q' (by omega))
theorem rx_countN {post : Int32 → St1 → Prop} {u : St1} (hP : rx_PW c f s D G L) (hn : n ≤ 10) (hq : ∀ a, 0 ≤ a → a ≤ n → rx_se c f s n tx a (-1) = none) (hK : rx_K n c f s tx u) (H : ∀ u', rx_K n c f s tx u' → post 0 u') : wpX_count post u := by
  obtain ⟨hh, mm, ll, zz, nn, cc, dd, ww, ee, b1, b2, b3, b4, b5, b6, b7, b8, b9, b10, b11, b12, b13, b14, b15, b16, b17, b18, b19⟩ := u
  refine ⟨1, ?_⟩
  refine pk_lt 10 0 (fun z => absurd z (by omega)) (fun _ => ?_)
  refine pk_lt n 0 (fun z => absurd z (by omega)) (fun hin => ?_) hK.1 rfl
  refine rx_ffN (i := 0) hP hn (by omega) hq hK ?_
  rintro ⟨hhx, mmx, llx, zzx, nnx, ccx, ddx, wwx, eex, b1x, b2x, b3x, b4x, b5x, b6x, b7x, b8x, b9x, b10x, b11x, b12x, b13x, b14x, b15x, b16x, b17x, b18x, b19x⟩ hKx
  exact br_f (by decide) (H _ hKx)
theorem rx_countS {post : Int32 → St1 → Prop} {u : St1} {i0 : Nat} {x : Nat × (Nat → Int32)} (hP : rx_PW c f s D G L) (hn : n ≤ 10) (h2 : i0 ≤ n) (h3 : rx_se c f s n tx i0 (-1) = some x) (h4 : ∀ a, 0 ≤ a → a < i0 → rx_se c f s n tx a (-1) = none) (hK : rx_K n c f s tx u) (H : ∀ q', 1 ≤ q' → q' ≤ 11 → ∀ u', rx_K n c f s tx u' → post (nI q') u') : wpX_count post u := by
  obtain ⟨hh, mm, ll, zz, nn, cc, dd, ww, ee, b1, b2, b3, b4, b5, b6, b7, b8, b9, b10, b11, b12, b13, b14, b15, b16, b17, b18, b19⟩ := u
  refine ⟨12, ?_⟩
  refine pk_lt 10 0 (fun z => absurd z (by omega)) (fun _ => ?_)
  refine pk_lt n 0 (fun z => absurd z (by omega)) (fun hin => ?_) hK.1 rfl
  have hx := rx_se_ok (j := x.1) (A := x.2) hP h2 h3
  refine rx_ffS (i := 0) hP hn (by omega) h2 h3 h4 hK ?_
  rintro ⟨hhx, mmx, llx, zzx, nnx, ccx, ddx, wwx, eex, b1x, b2x, b3x, b4x, b5x, b6x, b7x, b8x, b9x, b10x, b11x, b12x, b13x, b14x, b15x, b16x, b17x, b18x, b19x⟩ hKx hR
  have e : eex = nI x.1 := hR.1
  subst e
  refine br_t (nI_pos' (by omega)) (nm_r (nI_1 0) (pk_le x.1 i0 (fun _ => nm_r (nI_1 x.1) (nm_r (nI_1 0) ?_)) (fun _ => nm_r (nI_1 0) ?_)))
  · exact rx_count6 hP hn 10 1 1 (x.1 + 1) _ _ _ _ _ _ _ _ _ _ _ _ _ _ _ _ _ _ _ _ _ _ _ _ _ _ _ _ (by omega) (by omega) (by omega) hKx H
  · exact rx_count6 hP hn 10 1 1 x.1 _ _ _ _ _ _ _ _ _ _ _ _ _ _ _ _ _ _ _ _ _ _ _ _ _ _ _ _ (by omega) (by omega) (by omega) hKx H
theorem rx_longest7 {post : Int32 → St1 → Prop} (hP : rx_PW c f s D G L) (hn : n ≤ 10) (H : ∀ v, v ≤ n → ∀ u', rx_K n c f s tx u' → post (nI v) u') : ∀ (k r v i : Nat) (hh mm ll zz nn cc dd ww ee : Int32) (b1 b2 b3 b4 b5 b6 b7 b8 b9 b10 b11 b12 b13 b14 b15 b16 b17 b18 b19 : Nat → Int32), r + k = 11 → v ≤ n → i ≤ n + 1 → rx_K n c f s tx (hh, mm, ll, zz, nn, cc, dd, ww, ee, b1, b2, b3, b4, b5, b6, b7, b8, b9, b10, b11, b12, b13, b14, b15, b16, b17, b18, b19) → wX_longest_7 post (k + 1) (nI v) (nI i) (nI r) hh mm ll zz nn cc dd ww ee b1 b2 b3 b4 b5 b6 b7 b8 b9 b10 b11 b12 b13 b14 b15 b16 b17 b18 b19 := by
  intro k
  induction k with
  | zero =>
    intro r v i hh mm ll zz nn cc dd ww ee b1 b2 b3 b4 b5 b6 b7 b8 b9 b10 b11 b12 b13 b14 b15 b16 b17 b18 b19 hr hv hi hK
    exact pk_lt 10 r (fun _ => H v hv _ hK) (fun z => absurd z (by omega))
  | succ k ih =>
    intro r v i hh mm ll zz nn cc dd ww ee b1 b2 b3 b4 b5 b6 b7 b8 b9 b10 b11 b12 b13 b14 b15 b16 b17 b18 b19 hr hv hi hK
    refine pk_lt 10 r (fun z => absurd z (by omega)) (fun _ => ?_)
    refine pk_lt n i (fun _ => H v hv _ hK) (fun hin => ?_) hK.1 rfl
    rcases rx_fst (fun a => rx_se c f s n tx a (-1)) n _ i rfl with z | ⟨i0, x, h1, h2, h3, h4⟩
    · refine rx_ffN hP hn hi z hK ?_
      rintro ⟨hhx, mmx, llx, zzx, nnx, ccx, ddx, wwx, eex, b1x, b2x, b3x, b4x, b5x, b6x, b7x, b8x, b9x, b10x, b11x, b12x, b13x, b14x, b15x, b16x, b17x, b18x, b19x⟩ hKx
      exact br_f (by decide) (H v hv _ hKx)
    · have hx := rx_se_ok (j := x.1) (A := x.2) hP h2 h3
      refine rx_ffS hP hn h1 h2 h3 h4 hK ?_
      rintro ⟨hhx, mmx, llx, zzx, nnx, ccx, ddx, wwx, eex, b1x, b2x, b3x, b4x, b5x, b6x, b7x, b8x, b9x, b10x, b11x, b12x, b13x, b14x, b15x, b16x, b17x, b18x, b19x⟩ hKx hR
      have e : eex = nI x.1 := hR.1
      subst e
      have fin : ∀ (z0 : Int32) (w : Nat), z0 = nI w → w ≤ n → wX_longest_57 post (wX_longest_7 post (k + 1)) (nI r) (nI i0) z0 hhx mmx llx zzx nnx ccx ddx wwx (nI x.1) b1x b2x b3x b4x b5x b6x b7x b8x b9x b10x b11x b12x b13x b14x b15x b16x b17x b18x b19x := by
        intro z0 w hz hw
        subst hz
        refine pk_le x.1 i0 (fun _ => nm_r (nI_1 x.1) (nm_r (nI_1 r) ?_)) (fun _ => nm_r (nI_1 r) ?_)
        · exact ih (r + 1) w (x.1 + 1) _ _ _ _ _ _ _ _ _ _ _ _ _ _ _ _ _ _ _ _ _ _ _ _ _ _ _ _ (by omega) hw (by omega) hKx
        · exact ih (r + 1) w x.1 _ _ _ _ _ _ _ _ _ _ _ _ _ _ _ _ _ _ _ _ _ _ _ _ _ _ _ _ (by omega) hw (by omega) hKx
      exact br_t (nI_pos' (by omega)) (br_c (fun _ => fin _ v rfl hv) (fun _ => fin _ (x.1 - i0) (pk_sub hx.1) (by omega)))
theorem rx_longestN {post : Int32 → St1 → Prop} {u : St1} (hP : rx_PW c f s D G L) (hn : n ≤ 10) (hq : ∀ a, 0 ≤ a → a ≤ n → rx_se c f s n tx a (-1) = none) (hK : rx_K n c f s tx u) (H : ∀ u', rx_K n c f s tx u' → post (-4) u') : wpX_longest post u := by
  obtain ⟨hh, mm, ll, zz, nn, cc, dd, ww, ee, b1, b2, b3, b4, b5, b6, b7, b8, b9, b10, b11, b12, b13, b14, b15, b16, b17, b18, b19⟩ := u
  refine ⟨1, ?_⟩
  refine pk_lt 10 0 (fun z => absurd z (by omega)) (fun _ => ?_)
  refine pk_lt n 0 (fun z => absurd z (by omega)) (fun hin => ?_) hK.1 rfl
  refine rx_ffN (i := 0) hP hn (by omega) hq hK ?_
  rintro ⟨hhx, mmx, llx, zzx, nnx, ccx, ddx, wwx, eex, b1x, b2x, b3x, b4x, b5x, b6x, b7x, b8x, b9x, b10x, b11x, b12x, b13x, b14x, b15x, b16x, b17x, b18x, b19x⟩ hKx
  exact br_f (by decide) (H _ hKx)
theorem rx_longestS {post : Int32 → St1 → Prop} {u : St1} {i0 : Nat} {x : Nat × (Nat → Int32)} (hP : rx_PW c f s D G L) (hn : n ≤ 10) (h2 : i0 ≤ n) (h3 : rx_se c f s n tx i0 (-1) = some x) (h4 : ∀ a, 0 ≤ a → a < i0 → rx_se c f s n tx a (-1) = none) (hK : rx_K n c f s tx u) (H : ∀ v, v ≤ n → ∀ u', rx_K n c f s tx u' → post (nI v) u') : wpX_longest post u := by
  obtain ⟨hh, mm, ll, zz, nn, cc, dd, ww, ee, b1, b2, b3, b4, b5, b6, b7, b8, b9, b10, b11, b12, b13, b14, b15, b16, b17, b18, b19⟩ := u
  refine ⟨12, ?_⟩
  refine pk_lt 10 0 (fun z => absurd z (by omega)) (fun _ => ?_)
  refine pk_lt n 0 (fun z => absurd z (by omega)) (fun hin => ?_) hK.1 rfl
  have hx := rx_se_ok (j := x.1) (A := x.2) hP h2 h3
  refine rx_ffS (i := 0) hP hn (by omega) h2 h3 h4 hK ?_
  rintro ⟨hhx, mmx, llx, zzx, nnx, ccx, ddx, wwx, eex, b1x, b2x, b3x, b4x, b5x, b6x, b7x, b8x, b9x, b10x, b11x, b12x, b13x, b14x, b15x, b16x, b17x, b18x, b19x⟩ hKx hR
  have e : eex = nI x.1 := hR.1
  subst e
  have fin : wX_longest_57 post (wX_longest_7 post 11) (nI 0) (nI i0) (nI (x.1 - i0)) hhx mmx llx zzx nnx ccx ddx wwx (nI x.1) b1x b2x b3x b4x b5x b6x b7x b8x b9x b10x b11x b12x b13x b14x b15x b16x b17x b18x b19x := by
    refine pk_le x.1 i0 (fun _ => nm_r (nI_1 x.1) (nm_r (nI_1 0) ?_)) (fun _ => nm_r (nI_1 0) ?_)
    · exact rx_longest7 hP hn H 10 1 _ (x.1 + 1) _ _ _ _ _ _ _ _ _ _ _ _ _ _ _ _ _ _ _ _ _ _ _ _ _ _ _ _ (by omega) (by omega) (by omega) hKx
    · exact rx_longest7 hP hn H 10 1 _ x.1 _ _ _ _ _ _ _ _ _ _ _ _ _ _ _ _ _ _ _ _ _ _ _ _ _ _ _ _ (by omega) (by omega) (by omega) hKx
  have es : nI x.1 - nI i0 = nI (x.1 - i0) := pk_sub hx.1
  have eg : ¬ nI x.1 - nI i0 ≤ -4 := by
    rw [es]
    intro z
    have h1 := Int32.le_iff_toInt_le.mp z
    rw [nI_toInt (by omega)] at h1
    have h5 : (-4 : Int32).toInt = -4 := by decide
    omega
  refine br_t (nI_pos' (by omega)) (br_f eg ?_)
  rw [es]
  exact fin
end
end
section
section
variable {n : Nat} {c f s tx : Nat → Int32} {D : Nat → Nat} {G : Nat → Nat → Prop} {L : Nat} {LL : Nat} {xs : Nat → Int32} {kc ks : Nat}
theorem rx_177N {post : Int32 → Prop} {J : Int32 → Int32 → Int32 → Int32 → Int32 → Int32 → Int32 → Int32 → Int32 → Int32 → (Nat → Int32) → (Nat → Int32) → (Nat → Int32) → (Nat → Int32) → (Nat → Int32) → (Nat → Int32) → (Nat → Int32) → (Nat → Int32) → (Nat → Int32) → (Nat → Int32) → (Nat → Int32) → (Nat → Int32) → (Nat → Int32) → (Nat → Int32) → (Nat → Int32) → (Nat → Int32) → (Nat → Int32) → (Nat → Int32) → (Nat → Int32) → Prop} {x2 x4 x5 : Int32} {a : Nat} (hP : rx_PW c f s D G L) (hn : n ≤ 10) (ha : a ≤ n) (hq : ∀ q, a ≤ q → q ≤ n → rx_se c f s n tx q (-1) = none) (H : ∀ (hh mm ll zz nn cc dd ww ee : Int32) (b1 b2 b3 b4 b5 b6 b7 b8 b9 b10 b11 b12 b13 b14 b15 b16 b17 b18 b19 : Nat → Int32), rx_K n c f s tx (hh, mm, ll, zz, nn, cc, dd, ww, ee, b1, b2, b3, b4, b5, b6, b7, b8, b9, b10, b11, b12, b13, b14, b15, b16, b17, b18, b19) → J (nI (a + 1)) hh mm ll zz nn cc dd ww ee b1 b2 b3 b4 b5 b6 b7 b8 b9 b10 b11 b12 b13 b14 b15 b16 b17 b18 b19) : ∀ (k g : Nat) (hh mm ll zz nn cc dd ww ee : Int32) (b1 b2 b3 b4 b5 b6 b7 b8 b9 b10 b11 b12 b13 b14 b15 b16 b17 b18 b19 : Nat → Int32), k = 3 - g → g ≤ 3 → rx_K n c f s tx (hh, mm, ll, zz, nn, cc, dd, ww, ee, b1, b2, b3, b4, b5, b6, b7, b8, b9, b10, b11, b12, b13, b14, b15, b16, b17, b18, b19) → wL_law_177 post LL xs J x2 (nI a) x4 x5 kc ks (k + 1) (nI g) hh mm ll zz nn cc dd ww ee b1 b2 b3 b4 b5 b6 b7 b8 b9 b10 b11 b12 b13 b14 b15 b16 b17 b18 b19 := by
  intro k
  induction k with
  | zero =>
    intro g hh mm ll zz nn cc dd ww ee b1 b2 b3 b4 b5 b6 b7 b8 b9 b10 b11 b12 b13 b14 b15 b16 b17 b18 b19 hk hg hK
    exact pk_le 3 g (fun _ => nm_r (nI_1 a) (H _ _ _ _ _ _ _ _ _ _ _ _ _ _ _ _ _ _ _ _ _ _ _ _ _ _ _ _ hK)) (fun z => absurd z (by omega))
  | succ k ih =>
    intro g hh mm ll zz nn cc dd ww ee b1 b2 b3 b4 b5 b6 b7 b8 b9 b10 b11 b12 b13 b14 b15 b16 b17 b18 b19 hk hg hK
    refine pk_le 3 g (fun z => absurd z (by omega)) (fun _ => rx_grpN hP hn (by omega) ha hq hK ?_)
    rintro ⟨hhx, mmx, llx, zzx, nnx, ccx, ddx, wwx, eex, b1x, b2x, b3x, b4x, b5x, b6x, b7x, b8x, b9x, b10x, b11x, b12x, b13x, b14x, b15x, b16x, b17x, b18x, b19x⟩ hKx
    exact br_t rfl (nm_r (nI_1 g) (ih (g + 1) _ _ _ _ _ _ _ _ _ _ _ _ _ _ _ _ _ _ _ _ _ _ _ _ _ _ _ _ (by omega) (by omega) hKx))
theorem rx_177S {post : Int32 → Prop} {J : Int32 → Int32 → Int32 → Int32 → Int32 → Int32 → Int32 → Int32 → Int32 → Int32 → (Nat → Int32) → (Nat → Int32) → (Nat → Int32) → (Nat → Int32) → (Nat → Int32) → (Nat → Int32) → (Nat → Int32) → (Nat → Int32) → (Nat → Int32) → (Nat → Int32) → (Nat → Int32) → (Nat → Int32) → (Nat → Int32) → (Nat → Int32) → (Nat → Int32) → (Nat → Int32) → (Nat → Int32) → (Nat → Int32) → (Nat → Int32) → Prop} {x2 : Int32} {a i0 : Nat} {x : Nat × (Nat → Int32)} (hP : rx_PW c f s D G L) (hn : n ≤ 10) (h1 : a ≤ i0) (h2 : i0 ≤ n) (h3 : rx_se c f s n tx i0 (-1) = some x) (h4 : ∀ q, a ≤ q → q < i0 → rx_se c f s n tx q (-1) = none) (H : ∀ (hh mm ll zz nn cc dd ww ee : Int32) (b1 b2 b3 b4 b5 b6 b7 b8 b9 b10 b11 b12 b13 b14 b15 b16 b17 b18 b19 : Nat → Int32), rx_K n c f s tx (hh, mm, ll, zz, nn, cc, dd, ww, ee, b1, b2, b3, b4, b5, b6, b7, b8, b9, b10, b11, b12, b13, b14, b15, b16, b17, b18, b19) → J (nI (a + 1)) hh mm ll zz nn cc dd ww ee b1 b2 b3 b4 b5 b6 b7 b8 b9 b10 b11 b12 b13 b14 b15 b16 b17 b18 b19) : ∀ (k g : Nat) (hh mm ll zz nn cc dd ww ee : Int32) (b1 b2 b3 b4 b5 b6 b7 b8 b9 b10 b11 b12 b13 b14 b15 b16 b17 b18 b19 : Nat → Int32), k = 3 - g → g ≤ 3 → rx_K n c f s tx (hh, mm, ll, zz, nn, cc, dd, ww, ee, b1, b2, b3, b4, b5, b6, b7, b8, b9, b10, b11, b12, b13, b14, b15, b16, b17, b18, b19) → wL_law_177 post LL xs J x2 (nI a) (nI i0) (nI x.1) kc ks (k + 1) (nI g) hh mm ll zz nn cc dd ww ee b1 b2 b3 b4 b5 b6 b7 b8 b9 b10 b11 b12 b13 b14 b15 b16 b17 b18 b19 := by
  have hx := rx_se_ok (j := x.1) (A := x.2) hP h2 h3
  intro k
  induction k with
  | zero =>
    intro g hh mm ll zz nn cc dd ww ee b1 b2 b3 b4 b5 b6 b7 b8 b9 b10 b11 b12 b13 b14 b15 b16 b17 b18 b19 hk hg hK
    exact pk_le 3 g (fun _ => nm_r (nI_1 a) (H _ _ _ _ _ _ _ _ _ _ _ _ _ _ _ _ _ _ _ _ _ _ _ _ _ _ _ _ hK)) (fun z => absurd z (by omega))
  | succ k ih =>
    intro g hh mm ll zz nn cc dd ww ee b1 b2 b3 b4 b5 b6 b7 b8 b9 b10 b11 b12 b13 b14 b15 b16 b17 b18 b19 hk hg hK
    refine pk_le 3 g (fun z => absurd z (by omega)) (fun hg3 => rx_grpS hP hn hg3 h1 h2 h3 h4 hK ?_)
    rintro ⟨hhx, mmx, llx, zzx, nnx, ccx, ddx, wwx, eex, b1x, b2x, b3x, b4x, b5x, b6x, b7x, b8x, b9x, b10x, b11x, b12x, b13x, b14x, b15x, b16x, b17x, b18x, b19x⟩ hKx
    refine br_c (fun _ => nm_r (nI_1 g) (ih (g + 1) _ _ _ _ _ _ _ _ _ _ _ _ _ _ _ _ _ _ _ _ _ _ _ _ _ _ _ _ (by omega) (by omega) hKx)) (fun hne => ?_)
    rcases (hx.2.2.2 g hg3).1 with z | ⟨b, e, w1, w2, w3, w4⟩
    · exact absurd z hne
    · have s1 : x.2 g >>> ((4 : Int32) &&& 31) = nI b := by
        rw [w4, pk_shrN (by omega) _ 4 (by decide)]
        congr 1
        omega
      have s2 : x.2 g &&& 15 = nI e := by
        rw [w4, pk_andN (by omega) 4 (by decide)]
        congr 1
        omega
      rw [s1, s2]
      refine br_f (nI_pos (by omega)) (br_f (nI_nlt w1 (by omega)) (br_f (nI_nlt w3 (by omega)) (br_t (nI_le w2 (by omega)) ?_)))
      exact nm_r (nI_1 g) (ih (g + 1) _ _ _ _ _ _ _ _ _ _ _ _ _ _ _ _ _ _ _ _ _ _ _ _ _ _ _ _ (by omega) (by omega) hKx)
/-- one f of the law -/
theorem rx_44N {post : Int32 → Prop} {J : Int32 → Int32 → Int32 → Int32 → Int32 → Int32 → Int32 → Int32 → Int32 → Int32 → (Nat → Int32) → (Nat → Int32) → (Nat → Int32) → (Nat → Int32) → (Nat → Int32) → (Nat → Int32) → (Nat → Int32) → (Nat → Int32) → (Nat → Int32) → (Nat → Int32) → (Nat → Int32) → (Nat → Int32) → (Nat → Int32) → (Nat → Int32) → (Nat → Int32) → (Nat → Int32) → (Nat → Int32) → (Nat → Int32) → (Nat → Int32) → Prop} {a : Nat} (hP : rx_PW c f s D G L) (hn : n ≤ 10) (ha : a ≤ n) (hq : ∀ q, a ≤ q → q ≤ n → rx_se c f s n tx q (-1) = none) (H : ∀ (hh mm ll zz nn cc dd ww ee : Int32) (b1 b2 b3 b4 b5 b6 b7 b8 b9 b10 b11 b12 b13 b14 b15 b16 b17 b18 b19 : Nat → Int32), rx_K n c f s tx (hh, mm, ll, zz, nn, cc, dd, ww, ee, b1, b2, b3, b4, b5, b6, b7, b8, b9, b10, b11, b12, b13, b14, b15, b16, b17, b18, b19) → J (nI (a + 1)) hh mm ll zz nn cc dd ww ee b1 b2 b3 b4 b5 b6 b7 b8 b9 b10 b11 b12 b13 b14 b15 b16 b17 b18 b19) {hh mm ll zz nn cc dd ww ee : Int32} {b1 b2 b3 b4 b5 b6 b7 b8 b9 b10 b11 b12 b13 b14 b15 b16 b17 b18 b19 : Nat → Int32} (hK : rx_K n c f s tx (hh, mm, ll, zz, nn, cc, dd, ww, ee, b1, b2, b3, b4, b5, b6, b7, b8, b9, b10, b11, b12, b13, b14, b15, b16, b17, b18, b19)) : wL_law_81 post LL xs J (nI n) (nI a) (-4) (-4) 1 kc ks hh mm ll zz nn cc dd ww ee b1 b2 b3 b4 b5 b6 b7 b8 b9 b10 b11 b12 b13 b14 b15 b16 b17 b18 b19 := by
  refine br_t rfl (br_t rfl (br_t rfl (rx_someB (i := n + 1) hP hn (Nat.le_refl _) (by omega) (nI_1 n) (fun q h1 h2 => hq q h1 (by omega)) hK ?_)))
  rintro ⟨hhx, mmx, llx, zzx, nnx, ccx, ddx, wwx, eex, b1x, b2x, b3x, b4x, b5x, b6x, b7x, b8x, b9x, b10x, b11x, b12x, b13x, b14x, b15x, b16x, b17x, b18x, b19x⟩ hKx
  refine br_t rfl (br_t (show (-4 : Int32) < 0 by decide) ⟨4, ?_⟩)
  exact rx_177N hP hn ha hq H 3 0 _ _ _ _ _ _ _ _ _ _ _ _ _ _ _ _ _ _ _ _ _ _ _ _ _ _ _ _ rfl (by omega) hKx
theorem rx_44S {post : Int32 → Prop} {J : Int32 → Int32 → Int32 → Int32 → Int32 → Int32 → Int32 → Int32 → Int32 → Int32 → (Nat → Int32) → (Nat → Int32) → (Nat → Int32) → (Nat → Int32) → (Nat → Int32) → (Nat → Int32) → (Nat → Int32) → (Nat → Int32) → (Nat → Int32) → (Nat → Int32) → (Nat → Int32) → (Nat → Int32) → (Nat → Int32) → (Nat → Int32) → (Nat → Int32) → (Nat → Int32) → (Nat → Int32) → (Nat → Int32) → (Nat → Int32) → Prop} {a i0 : Nat} {x : Nat × (Nat → Int32)} (hP : rx_PW c f s D G L) (hn : n ≤ 10) (h1 : a ≤ i0) (h2 : i0 ≤ n) (h3 : rx_se c f s n tx i0 (-1) = some x) (h4 : ∀ q, a ≤ q → q < i0 → rx_se c f s n tx q (-1) = none) (H : ∀ (hh mm ll zz nn cc dd ww ee : Int32) (b1 b2 b3 b4 b5 b6 b7 b8 b9 b10 b11 b12 b13 b14 b15 b16 b17 b18 b19 : Nat → Int32), rx_K n c f s tx (hh, mm, ll, zz, nn, cc, dd, ww, ee, b1, b2, b3, b4, b5, b6, b7, b8, b9, b10, b11, b12, b13, b14, b15, b16, b17, b18, b19) → J (nI (a + 1)) hh mm ll zz nn cc dd ww ee b1 b2 b3 b4 b5 b6 b7 b8 b9 b10 b11 b12 b13 b14 b15 b16 b17 b18 b19) {hh mm ll zz nn cc dd ww ee : Int32} {b1 b2 b3 b4 b5 b6 b7 b8 b9 b10 b11 b12 b13 b14 b15 b16 b17 b18 b19 : Nat → Int32} (hK : rx_K n c f s tx (hh, mm, ll, zz, nn, cc, dd, ww, ee, b1, b2, b3, b4, b5, b6, b7, b8, b9, b10, b11, b12, b13, b14, b15, b16, b17, b18, b19)) : wL_law_81 post LL xs J (nI n) (nI a) (nI i0) (nI x.1) 0 kc ks hh mm ll zz nn cc dd ww ee b1 b2 b3 b4 b5 b6 b7 b8 b9 b10 b11 b12 b13 b14 b15 b16 b17 b18 b19 := by
  have hx := rx_se_ok (j := x.1) (A := x.2) hP h2 h3
  obtain ⟨A, hA⟩ := rx_se_sp (j := x.1) (A := x.2) hP hn h2 h3
  refine br_f (rx_nI_m4 (by omega)) (br_t rfl (br_f (rx_nI_m4 (by omega)) ?_))
  refine br_f (nI_pos (by omega)) (br_f (nI_nlt h1 (by omega)) (br_f (nI_nlt hx.1 (by omega)) (br_f (nI_nlt hx.2.1 (by omega)) ?_)))
  refine rx_spansT hP hn h2 hx.2.1 hA hK ?_
  rintro ⟨hhx, mmx, llx, zzx, nnx, ccx, ddx, wwx, eex, b1x, b2x, b3x, b4x, b5x, b6x, b7x, b8x, b9x, b10x, b11x, b12x, b13x, b14x, b15x, b16x, b17x, b18x, b19x⟩ hKx
  refine br_f (show ¬ (1 : Int32) = 0 by decide) (rx_findS hP hn (Nat.le_refl _) h2 h3 (fun q g1 g2 => absurd g1 (by omega)) hKx ?_)
  rintro ⟨hhy, mmy, lly, zzy, nny, ccy, ddy, wwy, eey, b1y, b2y, b3y, b4y, b5y, b6y, b7y, b8y, b9y, b10y, b11y, b12y, b13y, b14y, b15y, b16y, b17y, b18y, b19y⟩ hKy
  refine br_t rfl (rx_someB (i := i0) hP hn (by omega) h1 rfl h4 hKy ?_)
  rintro ⟨hhz, mmz, llz, zzz, nnz, ccz, ddz, wwz, eez, b1z, b2z, b3z, b4z, b5z, b6z, b7z, b8z, b9z, b10z, b11z, b12z, b13z, b14z, b15z, b16z, b17z, b18z, b19z⟩ hKz
  refine br_t rfl ⟨4, ?_⟩
  exact rx_177S hP hn h1 h2 h3 h4 H 3 0 _ _ _ _ _ _ _ _ _ _ _ _ _ _ _ _ _ _ _ _ _ _ _ _ _ _ _ _ rfl (by omega) hKz
/-- the law's last row -/
theorem rx_249 (hP : rx_PW c f s D G L) (hn : n ≤ 10) {hh mm ll zz nn cc dd ww ee : Int32} {b1 b2 b3 b4 b5 b6 b7 b8 b9 b10 b11 b12 b13 b14 b15 b16 b17 b18 b19 : Nat → Int32} (hK : rx_K n c f s tx (hh, mm, ll, zz, nn, cc, dd, ww, ee, b1, b2, b3, b4, b5, b6, b7, b8, b9, b10, b11, b12, b13, b14, b15, b16, b17, b18, b19)) : wL_law_249 (fun r => r = 1) LL xs (nI n) kc ks hh mm ll zz nn cc dd ww ee b1 b2 b3 b4 b5 b6 b7 b8 b9 b10 b11 b12 b13 b14 b15 b16 b17 b18 b19 := by
  have last : ∀ {z : Int32} (hh mm ll zz nn cc dd ww ee : Int32) (b1 b2 b3 b4 b5 b6 b7 b8 b9 b10 b11 b12 b13 b14 b15 b16 b17 b18 b19 : Nat → Int32), rx_K n c f s tx (hh, mm, ll, zz, nn, cc, dd, ww, ee, b1, b2, b3, b4, b5, b6, b7, b8, b9, b10, b11, b12, b13, b14, b15, b16, b17, b18, b19) → wL_law_312 (fun r => r = 1) LL xs (nI n) z z kc ks hh mm ll zz nn cc dd ww ee b1 b2 b3 b4 b5 b6 b7 b8 b9 b10 b11 b12 b13 b14 b15 b16 b17 b18 b19 := by
    intro z hh mm ll zz nn cc dd ww ee b1 b2 b3 b4 b5 b6 b7 b8 b9 b10 b11 b12 b13 b14 b15 b16 b17 b18 b19 hK
    refine br_t rfl (rx_findO hn (nI_1 n) hK ?_)
    rintro ⟨hhx, mmx, llx, zzx, nnx, ccx, ddx, wwx, eex, b1x, b2x, b3x, b4x, b5x, b6x, b7x, b8x, b9x, b10x, b11x, b12x, b13x, b14x, b15x, b16x, b17x, b18x, b19x⟩ hKx
    refine br_t rfl (rx_endO hKx ?_)
    rintro ⟨hhy, mmy, lly, zzy, nny, ccy, ddy, wwy, eey, b1y, b2y, b3y, b4y, b5y, b6y, b7y, b8y, b9y, b10y, b11y, b12y, b13y, b14y, b15y, b16y, b17y, b18y, b19y⟩ hKy
    exact br_t rfl rfl
  rcases rx_fst (fun a => rx_se c f s n tx a (-1)) n _ 0 rfl with z | ⟨i0, x, h1, h2, h3, h4⟩
  · refine rx_longestN hP hn z hK ?_
    rintro ⟨hhx, mmx, llx, zzx, nnx, ccx, ddx, wwx, eex, b1x, b2x, b3x, b4x, b5x, b6x, b7x, b8x, b9x, b10x, b11x, b12x, b13x, b14x, b15x, b16x, b17x, b18x, b19x⟩ hKx
    refine rx_countN hP hn z hKx ?_
    rintro ⟨hhy, mmy, lly, zzy, nny, ccy, ddy, wwy, eey, b1y, b2y, b3y, b4y, b5y, b6y, b7y, b8y, b9y, b10y, b11y, b12y, b13y, b14y, b15y, b16y, b17y, b18y, b19y⟩ hKy
    refine br_t rfl (rx_findN (i := 0) hP hn (by omega) z hKy ?_)
    rintro ⟨hhz, mmz, llz, zzz, nnz, ccz, ddz, wwz, eez, b1z, b2z, b3z, b4z, b5z, b6z, b7z, b8z, b9z, b10z, b11z, b12z, b13z, b14z, b15z, b16z, b17z, b18z, b19z⟩ hKz
    refine br_t rfl (br_t rfl (br_f ?_ (br_t rfl (rx_countN hP hn z hKz ?_))))
    · intro y
      exact nI_pos (n := n) (by omega) (Int32.lt_trans y (by decide))
    · rintro ⟨hhw, mmw, llw, zzw, nnw, ccw, ddw, www, eew, b1w, b2w, b3w, b4w, b5w, b6w, b7w, b8w, b9w, b10w, b11w, b12w, b13w, b14w, b15w, b16w, b17w, b18w, b19w⟩ hKw
      exact br_t rfl (last _ _ _ _ _ _ _ _ _ _ _ _ _ _ _ _ _ _ _ _ _ _ _ _ _ _ _ _ hKw)
  · refine rx_longestS hP hn h2 h3 h4 hK (fun v hv => ?_)
    rintro ⟨hhx, mmx, llx, zzx, nnx, ccx, ddx, wwx, eex, b1x, b2x, b3x, b4x, b5x, b6x, b7x, b8x, b9x, b10x, b11x, b12x, b13x, b14x, b15x, b16x, b17x, b18x, b19x⟩ hKx
    refine rx_countS hP hn h2 h3 h4 hKx (fun q hq1 hq2 => ?_)
    rintro ⟨hhy, mmy, lly, zzy, nny, ccy, ddy, wwy, eey, b1y, b2y, b3y, b4y, b5y, b6y, b7y, b8y, b9y, b10y, b11y, b12y, b13y, b14y, b15y, b16y, b17y, b18y, b19y⟩ hKy
    refine br_f (nI_ne0 (by omega) (by omega)) (rx_findS (i := 0) hP hn h1 h2 h3 h4 hKy ?_)
    rintro ⟨hhz, mmz, llz, zzz, nnz, ccz, ddz, wwz, eez, b1z, b2z, b3z, b4z, b5z, b6z, b7z, b8z, b9z, b10z, b11z, b12z, b13z, b14z, b15z, b16z, b17z, b18z, b19z⟩ hKz
    refine br_f (rx_nI_m4 (by omega)) (br_t rfl (br_f (nI_nlt hv (by omega)) (br_f (rx_nI_m4 (by omega)) ?_)))
    refine rx_countS hP hn h2 h3 h4 hKz (fun q' hq1' hq2' => ?_)
    rintro ⟨hhw, mmw, llw, zzw, nnw, ccw, ddw, www, eew, b1w, b2w, b3w, b4w, b5w, b6w, b7w, b8w, b9w, b10w, b11w, b12w, b13w, b14w, b15w, b16w, b17w, b18w, b19w⟩ hKw
    exact br_f (nI_ne0 (by omega) (by omega)) (last _ _ _ _ _ _ _ _ _ _ _ _ _ _ _ _ _ _ _ _ _ _ _ _ _ _ _ _ hKw)
theorem rx_44 (hP : rx_PW c f s D G L) (hn : n ≤ 10) : ∀ (k a : Nat) (hh mm ll zz nn cc dd ww ee : Int32) (b1 b2 b3 b4 b5 b6 b7 b8 b9 b10 b11 b12 b13 b14 b15 b16 b17 b18 b19 : Nat → Int32), k = 11 - a → a ≤ 11 → rx_K n c f s tx (hh, mm, ll, zz, nn, cc, dd, ww, ee, b1, b2, b3, b4, b5, b6, b7, b8, b9, b10, b11, b12, b13, b14, b15, b16, b17, b18, b19) → wL_law_44 (fun r => r = 1) LL xs (nI n) kc ks (k + 1) (nI a) hh mm ll zz nn cc dd ww ee b1 b2 b3 b4 b5 b6 b7 b8 b9 b10 b11 b12 b13 b14 b15 b16 b17 b18 b19 := by
  intro k
  induction k with
  | zero =>
    intro a hh mm ll zz nn cc dd ww ee b1 b2 b3 b4 b5 b6 b7 b8 b9 b10 b11 b12 b13 b14 b15 b16 b17 b18 b19 hk ha hK
    exact pk_le 11 a (fun _ => rx_249 hP hn hK) (fun z => absurd z (by omega))
  | succ k ih =>
    intro a hh mm ll zz nn cc dd ww ee b1 b2 b3 b4 b5 b6 b7 b8 b9 b10 b11 b12 b13 b14 b15 b16 b17 b18 b19 hk ha hK
    refine pk_le 11 a (fun z => absurd z (by omega)) (fun _ => ?_)
    refine pk_lt n a (fun _ => rx_249 hP hn hK) (fun han => ?_)
    have hJ : ∀ (hh mm ll zz nn cc dd ww ee : Int32) (b1 b2 b3 b4 b5 b6 b7 b8 b9 b10 b11 b12 b13 b14 b15 b16 b17 b18 b19 : Nat → Int32), rx_K n c f s tx (hh, mm, ll, zz, nn, cc, dd, ww, ee, b1, b2, b3, b4, b5, b6, b7, b8, b9, b10, b11, b12, b13, b14, b15, b16, b17, b18, b19) → wL_law_44 (fun r => r = 1) LL xs (nI n) kc ks (k + 1) (nI (a + 1)) hh mm ll zz nn cc dd ww ee b1 b2 b3 b4 b5 b6 b7 b8 b9 b10 b11 b12 b13 b14 b15 b16 b17 b18 b19 := fun hhx mmx llx zzx nnx ccx ddx wwx eex b1x b2x b3x b4x b5x b6x b7x b8x b9x b10x b11x b12x b13x b14x b15x b16x b17x b18x b19x hKx => ih (a + 1) _ _ _ _ _ _ _ _ _ _ _ _ _ _ _ _ _ _ _ _ _ _ _ _ _ _ _ _ (by omega) (by omega) hKx
    rcases rx_fst (fun q => rx_se c f s n tx q (-1)) n _ a rfl with z | ⟨i0, x, h1, h2, h3, h4⟩
    · refine rx_findN hP hn han z hK ?_
      rintro ⟨hhx, mmx, llx, zzx, nnx, ccx, ddx, wwx, eex, b1x, b2x, b3x, b4x, b5x, b6x, b7x, b8x, b9x, b10x, b11x, b12x, b13x, b14x, b15x, b16x, b17x, b18x, b19x⟩ hKx
      refine rx_endN hP hn han z hKx ?_
      rintro ⟨hhy, mmy, lly, zzy, nny, ccy, ddy, wwy, eey, b1y, b2y, b3y, b4y, b5y, b6y, b7y, b8y, b9y, b10y, b11y, b12y, b13y, b14y, b15y, b16y, b17y, b18y, b19y⟩ hKy
      exact br_t rfl (rx_44N hP hn han z hJ hKy)
    · refine rx_findS hP hn h1 h2 h3 h4 hK ?_
      rintro ⟨hhx, mmx, llx, zzx, nnx, ccx, ddx, wwx, eex, b1x, b2x, b3x, b4x, b5x, b6x, b7x, b8x, b9x, b10x, b11x, b12x, b13x, b14x, b15x, b16x, b17x, b18x, b19x⟩ hKx
      refine rx_endS hP hn h1 h2 h3 h4 hKx ?_
      rintro ⟨hhy, mmy, lly, zzy, nny, ccy, ddy, wwy, eey, b1y, b2y, b3y, b4y, b5y, b6y, b7y, b8y, b9y, b10y, b11y, b12y, b13y, b14y, b15y, b16y, b17y, b18y, b19y⟩ hKy
      exact br_f (rx_nI_m4 (by omega)) (rx_44S hP hn h1 h2 h3 h4 hJ hKy)
theorem rx_10 (hL : LL ≤ 260) : ∀ (k q : Nat) (hh mm ll zz nn cc dd ww ee : Int32) (b1 b2 b3 b4 b5 b6 b7 b8 b9 b10 b11 b12 b13 b14 b15 b16 b17 b18 b19 : Nat → Int32), LL < q + 2 * k → q ≤ 300 → rx_I (hh, mm, ll, zz, nn, cc, dd, ww, ee, b1, b2, b3, b4, b5, b6, b7, b8, b9, b10, b11, b12, b13, b14, b15, b16, b17, b18, b19) → wL_law_10 (fun r => r = 1) LL xs kc ks (k + 1) (nI q) hh mm ll zz nn cc dd ww ee b1 b2 b3 b4 b5 b6 b7 b8 b9 b10 b11 b12 b13 b14 b15 b16 b17 b18 b19 := by
  have done : ∀ (k q : Nat) (hh mm ll zz nn cc dd ww ee : Int32) (b1 b2 b3 b4 b5 b6 b7 b8 b9 b10 b11 b12 b13 b14 b15 b16 b17 b18 b19 : Nat → Int32), q ≤ 300 → LL ≤ q + 1 → rx_I (hh, mm, ll, zz, nn, cc, dd, ww, ee, b1, b2, b3, b4, b5, b6, b7, b8, b9, b10, b11, b12, b13, b14, b15, b16, b17, b18, b19) → wpX_length (fun r => ∃ k, wL_law_44 (fun r => r = 1) LL xs r kc ks k 0 hh mm ll zz nn cc dd ww ee b1 b2 b3 b4 b5 b6 b7 b8 b9 b10 b11 b12 b13 b14 b15 b16 b17 b18 b19) (hh, mm, ll, zz, nn, cc, dd, ww, ee, b1, b2, b3, b4, b5, b6, b7, b8, b9, b10, b11, b12, b13, b14, b15, b16, b17, b18, b19) := by
    intro k q hh mm ll zz nn cc dd ww ee b1 b2 b3 b4 b5 b6 b7 b8 b9 b10 b11 b12 b13 b14 b15 b16 b17 b18 b19 hq hle hI
    obtain ⟨B, h, m, l, n, e1, e2, e3, e4, hn, hB, hU⟩ := hI
    obtain ⟨L, hL32, hF, h4⟩ := hU
    obtain ⟨D, G, hP⟩ := rx_PW_of hF hL32 (Nat.le_refl _) h4
    refine ⟨12, ?_⟩
    subst e4
    exact rx_44 (tx := b9) hP hn 11 0 _ _ _ _ _ _ _ _ _ _ _ _ _ _ _ _ _ _ _ _ _ _ _ _ _ _ _ _ rfl (by omega) ⟨rfl, rfl, rfl, rfl, rfl⟩
  intro k
  induction k with
  | zero =>
    intro q hh mm ll zz nn cc dd ww ee b1 b2 b3 b4 b5 b6 b7 b8 b9 b10 b11 b12 b13 b14 b15 b16 b17 b18 b19 hk hq hI
    exact pk_le LL (q + 1) (fun z => done 0 q _ _ _ _ _ _ _ _ _ _ _ _ _ _ _ _ _ _ _ _ _ _ _ _ _ _ _ _ hq z hI) (fun z => absurd z (by omega)) rfl (nI_1 q)
  | succ k ih =>
    intro q hh mm ll zz nn cc dd ww ee b1 b2 b3 b4 b5 b6 b7 b8 b9 b10 b11 b12 b13 b14 b15 b16 b17 b18 b19 hk hq hI
    refine pk_le LL (q + 1) (fun z => done 0 q _ _ _ _ _ _ _ _ _ _ _ _ _ _ _ _ _ _ _ _ _ _ _ _ _ _ _ _ hq z hI) (fun z => ?_) rfl (nI_1 q)
    have e1 : nI q + 1 = nI (q + 1) := nI_1 q
    refine ⟨pk_in q LL (by omega), pk_in (q + 1) LL z e1, rx_turn hI ?_⟩
    rintro r ⟨hhx, mmx, llx, zzx, nnx, ccx, ddx, wwx, eex, b1x, b2x, b3x, b4x, b5x, b6x, b7x, b8x, b9x, b10x, b11x, b12x, b13x, b14x, b15x, b16x, b17x, b18x, b19x⟩ hIx
    exact nm_r (nI_add q 2) (ih (q + 2) _ _ _ _ _ _ _ _ _ _ _ _ _ _ _ _ _ _ _ _ _ _ _ _ _ _ _ _ (by omega) (by omega) hIx)
end
theorem i_vc (xs : Nat → Int32) (L : Nat) (hL : L ≤ 260) : wpL_law (fun r => r = 1) L xs := by
  refine ⟨19, 7522, by omega, by omega, ?_⟩
  refine ⟨by omega, by omega, by omega, by omega, by omega, by omega, by omega, by omega, by omega, by omega, by omega, by omega, by omega, by omega, by omega, by omega, by omega, by omega, by omega, by omega, by omega, by omega, by omega, by omega, by omega, by omega, by omega, by omega, by omega, by omega, by omega, by omega, by omega, by omega, by omega, by omega, by omega, by omega, nm_e ?_⟩
  refine ⟨201, ?_⟩
  refine rx_10 hL 200 0 _ _ _ _ _ _ _ _ _ _ _ _ _ _ _ _ _ _ _ _ _ _ _ _ _ _ _ _ (by omega) (by omega) ?_
  refine ⟨fun _ => 0, 0, 0, 0, 0, rfl, rfl, rfl, rfl, by omega, rx_B_0, 0, by omega, rx_FR_nil, pk_us⟩
end
