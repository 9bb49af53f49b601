section
/-- a store into a table of naturals -/
def oe_u (f : Nat → Nat) (k v : Nat) : Nat → Nat := fun j => if j = k then v else f j
theorem oe_us (f : Nat → Nat) (k v : Nat) : oe_u f k v k = v := by simp [oe_u]
theorem oe_un {f : Nat → Nat} {k v j : Nat} (h : j ≠ k) : oe_u f k v j = f j := by simp [oe_u, h]
/-- pigeons -/
theorem oe_pig : ∀ (m n : Nat) (f : Nat → Nat), (∀ i, i < n → f i < m) → (∀ i j, i < n → j < n → f i = f j → i = j) → n ≤ m := by
  intro m
  induction m with
  | zero =>
    intro n f h _
    rcases Nat.eq_zero_or_pos n with e | e
    · omega
    · exact absurd (h 0 e) (by omega)
  | succ m ih =>
    intro n f h hi
    cases n with
    | zero => omega
    | succ n =>
      have key : n ≤ m := by
        refine ih n (fun i => if f i = m then f n else f i) ?_ ?_
        · intro i hin
          have h1 := h n (by omega)
          have h2 := h i (by omega)
          have h3 := hi i n (by omega) (by omega)
          show (if f i = m then f n else f i) < m
          split
          next e =>
            have h4 : f n ≠ m := fun e2 => by
              have := h3 (by omega)
              omega
            omega
          next e => omega
        · intro i j hi1 hj1 e
          have h1 := hi i j (by omega) (by omega)
          have h2 := hi i n (by omega) (by omega)
          have h3 := hi j n (by omega) (by omega)
          have e' : (if f i = m then f n else f i) = (if f j = m then f n else f j) := e
          by_cases c1 : f i = m
          · by_cases c2 : f j = m
            · exact h1 (by omega)
            · rw [if_pos c1, if_neg c2] at e'
              have := h3 e'.symm
              omega
          · by_cases c2 : f j = m
            · rw [if_neg c1, if_pos c2] at e'
              have := h2 e'
              omega
            · rw [if_neg c1, if_neg c2] at e'
              exact h1 e'
      omega
/-- a tree over the nodes D with root r and N nodes: pl is the place in the outline's order (the root's is 0), sz the number of nodes of a branch -/
def oe_T (D : Nat → Prop) (r N : Nat) (ab ch nx bf pl sz : Nat → Nat) : Prop :=
  (D r ∧ pl r = 0 ∧ sz r = N) ∧
  (∀ y, D y → y ≤ 40 ∧ 1 ≤ sz y ∧ pl y + sz y ≤ N) ∧
  (∀ y, D y → ch y = 0 → sz y = 1) ∧
  (∀ y, D y → ch y ≠ 0 → D (ch y) ∧ ab (ch y) = y ∧ bf (ch y) = 0 ∧ pl (ch y) = pl y + 1) ∧
  (∀ y, D y → y ≠ r → y ≠ 0 ∧ D (ab y) ∧ pl (ab y) < pl y ∧ pl y + sz y ≤ pl (ab y) + sz (ab y)) ∧
  (∀ y, D y → y ≠ r → nx y = 0 → pl y + sz y = pl (ab y) + sz (ab y)) ∧
  (∀ y, D y → y ≠ r → nx y ≠ 0 → D (nx y) ∧ ab (nx y) = ab y ∧ bf (nx y) = y ∧ pl (nx y) = pl y + sz y) ∧
  (∀ y, D y → y ≠ r → bf y = 0 → ch (ab y) = y) ∧
  (∀ y, D y → y ≠ r → bf y ≠ 0 → D (bf y) ∧ bf y ≠ r ∧ nx (bf y) = y) ∧
  (∀ y z, D y → D z → pl y = pl z → y = z) ∧
  (∀ i, i < N → ∃ y, D y ∧ pl y = i)
section
variable {D : Nat → Prop} {r N : Nat} {ab ch nx bf pl sz : Nat → Nat}
theorem oe_lam (T : oe_T D r N ab ch nx bf pl sz) : ∀ n y z, D y → D z → pl z ≤ n → pl y < pl z → pl z < pl y + sz y → pl y ≤ pl (ab z) ∧ pl (ab z) + sz (ab z) ≤ pl y + sz y := by
  obtain ⟨⟨hr, hr0, hrN⟩, hb, hc0, hc, ha, hn0, hn, hb0, hbf, hinj, hsur⟩ := T
  intro n
  induction n with
  | zero => intro y z _ _ h1 h2; omega
  | succ n ih =>
    intro y z hy hz h1 h2 h3
    have zr : z ≠ r := fun e => by
      have := congrArg pl e
      omega
    obtain ⟨z0, hp, hpl, hpe⟩ := ha z hz zr
    by_cases e : bf z = 0
    · have hch := hb0 z hz zr e
      obtain ⟨_, _, _, g4⟩ := hc (ab z) hp (by rw [hch]; exact z0)
      rw [hch] at g4
      by_cases e2 : pl y = pl (ab z)
      · have e3 := hinj y (ab z) hy hp e2
        have e4 := congrArg sz e3
        exact ⟨by omega, by omega⟩
      · have pr : ab z ≠ r := fun e3 => by
          have := congrArg pl e3
          omega
        obtain ⟨i1, i2⟩ := ih y (ab z) hy hp (by omega) (by omega) (by omega)
        obtain ⟨_, _, _, q4⟩ := ha (ab z) hp pr
        exact ⟨by omega, by omega⟩
    · obtain ⟨hw, wr, hnw⟩ := hbf z hz zr e
      obtain ⟨_, k2, _, k4⟩ := hn (bf z) hw wr (by rw [hnw]; exact z0)
      rw [hnw] at k2 k4
      have wpos := (hb (bf z) hw).2.1
      rcases Nat.lt_trichotomy (pl y) (pl (bf z)) with g | g | g
      · obtain ⟨i1, i2⟩ := ih y (bf z) hy hw (by omega) g (by omega)
        rw [k2]
        exact ⟨i1, i2⟩
      · have e3 := hinj y (bf z) hy hw g
        have e4 := congrArg sz e3
        omega
      · have yr : y ≠ r := fun e3 => by
          have := congrArg pl e3
          omega
        obtain ⟨i1, i2⟩ := ih (bf z) y hw hy (by omega) g (by omega)
        obtain ⟨_, _, _, q4⟩ := ha y hy yr
        omega
/-- what holds a node strictly holds its parent -/
theorem oe_lam' (T : oe_T D r N ab ch nx bf pl sz) {y z : Nat} (hy : D y) (hz : D z) (h1 : pl y < pl z) (h2 : pl z < pl y + sz y) : pl y ≤ pl (ab z) ∧ pl (ab z) + sz (ab z) ≤ pl y + sz y :=
  oe_lam T (pl z) y z hy hz (Nat.le_refl _) h1 h2
theorem oe_nest (T : oe_T D r N ab ch nx bf pl sz) {y z : Nat} (hy : D y) (hz : D z) (h1 : pl y ≤ pl z) (h2 : pl z < pl y + sz y) : pl z + sz z ≤ pl y + sz y := by
  by_cases e : pl y = pl z
  · have e3 := T.2.2.2.2.2.2.2.2.2.1 y z hy hz e
    have e4 := congrArg sz e3
    omega
  · obtain ⟨g1, g2⟩ := oe_lam' T hy hz (by omega) h2
    have zr : z ≠ r := fun e3 => by
      have := congrArg pl e3
      have := T.1.2.1
      omega
    have := (T.2.2.2.2.1 z hz zr).2.2.2
    omega
theorem oe_N (T : oe_T D r N ab ch nx bf pl sz) : N ≤ 41 := by
  obtain ⟨⟨hr, hr0, hrN⟩, hb, hc0, hc, ha, hn0, hn, hb0, hbf, hinj, hsur⟩ := T
  have hs : ∀ i, ∃ y, i < N → D y ∧ pl y = i := fun i => by
    by_cases h : i < N
    · obtain ⟨y, hy⟩ := hsur i h
      exact ⟨y, fun _ => hy⟩
    · exact ⟨0, fun h' => absurd h' h⟩
  obtain ⟨g, hg⟩ := Classical.axiomOfChoice hs
  refine oe_pig 41 N g (fun i hi => ?_) (fun i j hi hj e => ?_)
  · have := (hb (g i) (hg i hi).1).1
    omega
  · have h1 := (hg i hi).2
    have h2 := (hg j hj).2
    rw [← h1, ← h2, e]
theorem oe_free (T : oe_T D r N ab ch nx bf pl sz) (h0 : D 0) (h : N ≤ 40) : ∃ k, 1 ≤ k ∧ k ≤ 40 ∧ ¬ D k := by
  obtain ⟨⟨hr, hr0, hrN⟩, hb, hc0, hc, ha, hn0, hn, hb0, hbf, hinj, hsur⟩ := T
  refine Classical.byContradiction (fun hne => ?_)
  have all : ∀ k, k ≤ 40 → D k := fun k hk => Classical.byContradiction (fun hd => hne ⟨k, by
    rcases Nat.eq_zero_or_pos k with e | e
    · rw [e] at hd
      exact absurd h0 hd
    · exact e, hk, hd⟩)
  have := oe_pig N 41 pl (fun i hi => by
    have := hb i (all i (by omega))
    omega) (fun i j hi hj e => hinj i j (all i (by omega)) (all j (by omega)) e)
  omega
/-- a tree is looked at at its nodes alone -/
theorem oe_frame {E : Nat → Prop} {ab' ch' nx' bf' pl' sz' : Nat → Nat} (T : oe_T D r N ab ch nx bf pl sz) (hE : ∀ y, E y ↔ D y) (h1 : ∀ y, D y → ch' y = ch y ∧ pl' y = pl y ∧ sz' y = sz y) (h2 : ∀ y, D y → y ≠ r → ab' y = ab y ∧ nx' y = nx y ∧ bf' y = bf y) : oe_T E r N ab' ch' nx' bf' pl' sz' := by
  have : E = D := funext fun y => propext (hE y)
  subst this
  obtain ⟨⟨hr, hr0, hrN⟩, hb, hc0, hc, ha, hn0, hn, hb0, hbf, hinj, hsur⟩ := T
  refine ⟨⟨hr, ?_, ?_⟩, ?_, ?_, ?_, ?_, ?_, ?_, ?_, ?_, ?_, ?_⟩
  · rw [(h1 r hr).2.1, hr0]
  · rw [(h1 r hr).2.2, hrN]
  · intro y hy
    rw [(h1 y hy).2.1, (h1 y hy).2.2]
    exact hb y hy
  · intro y hy e
    rw [(h1 y hy).1] at e
    rw [(h1 y hy).2.2]
    exact hc0 y hy e
  · intro y hy e
    rw [(h1 y hy).1] at e ⊢
    obtain ⟨g1, g2, g3, g4⟩ := hc y hy e
    have nr : ch y ≠ r := fun e3 => by
      have := congrArg pl e3
      omega
    rw [(h2 _ g1 nr).1, (h2 _ g1 nr).2.2, (h1 _ g1).2.1, (h1 _ hy).2.1]
    exact ⟨g1, g2, g3, g4⟩
  · intro y hy e
    obtain ⟨g1, g2, g3, g4⟩ := ha y hy e
    rw [(h2 _ hy e).1, (h1 _ hy).2.1, (h1 _ hy).2.2, (h1 _ g2).2.1, (h1 _ g2).2.2]
    exact ⟨g1, g2, g3, g4⟩
  · intro y hy e e2
    rw [(h2 _ hy e).2.1] at e2
    obtain ⟨g1, g2, g3, g4⟩ := ha y hy e
    rw [(h2 _ hy e).1, (h1 _ hy).2.1, (h1 _ hy).2.2, (h1 _ g2).2.1, (h1 _ g2).2.2]
    exact hn0 y hy e e2
  · intro y hy e e2
    rw [(h2 _ hy e).2.1] at e2 ⊢
    obtain ⟨g1, g2, g3, g4⟩ := hn y hy e e2
    have := (hb y hy).2.1
    have nr : nx y ≠ r := fun e3 => by
      have := congrArg pl e3
      omega
    rw [(h2 _ g1 nr).1, (h2 _ g1 nr).2.2, (h1 _ g1).2.1, (h1 _ hy).2.1, (h1 _ hy).2.2, (h2 _ hy e).1]
    exact ⟨g1, g2, g3, g4⟩
  · intro y hy e e2
    rw [(h2 _ hy e).2.2] at e2
    rw [(h2 _ hy e).1, (h1 _ (ha y hy e).2.1).1]
    exact hb0 y hy e e2
  · intro y hy e e2
    rw [(h2 _ hy e).2.2] at e2 ⊢
    obtain ⟨g1, g2, g3⟩ := hbf y hy e e2
    rw [(h2 _ g1 g2).2.1]
    exact ⟨g1, g2, g3⟩
  · intro y z hy hz e
    rw [(h1 y hy).2.1, (h1 z hz).2.1] at e
    exact hinj y z hy hz e
  · intro i hi
    obtain ⟨y, g1, g2⟩ := hsur i hi
    exact ⟨y, g1, by rw [(h1 y g1).2.1]; exact g2⟩
end
/-- rows (no heading folded: headings) from c to the end of its row of brothers, by fuel -/
def oe_rf (fd ch nx : Nat → Nat) : Nat → Nat → Nat
  | 0 => fun _ => 0
  | n + 1 => fun c => if c = 0 then 0 else 1 + (if fd c = 0 then oe_rf fd ch nx n (ch c) else 0) + oe_rf fd ch nx n (nx c)
def oe_rt (fd ch nx : Nat → Nat) (c : Nat) : Nat := oe_rf fd ch nx 41 c
def oe_z : Nat → Nat := fun _ => 0
theorem oe_rf0 (fd ch nx : Nat → Nat) (n : Nat) : oe_rf fd ch nx n 0 = 0 := by
  cases n with
  | zero => rfl
  | succ n => simp only [oe_rf, if_true]
theorem oe_rt0 (fd ch nx : Nat → Nat) : oe_rt fd ch nx 0 = 0 := oe_rf0 fd ch nx 41
/-- G: nodes closed under child and next, where the two pictures are the same -/
theorem oe_rf_same {fd ch nx fd' ch' nx' : Nat → Nat} (G : Nat → Prop) (h : ∀ c, G c → c ≠ 0 → fd' c = fd c ∧ ch' c = ch c ∧ nx' c = nx c ∧ (fd c = 0 → ch c ≠ 0 → G (ch c)) ∧ (nx c ≠ 0 → G (nx c))) : ∀ n c, (c ≠ 0 → G c) → oe_rf fd' ch' nx' n c = oe_rf fd ch nx n c := by
  intro n
  induction n with
  | zero => intro c _; rfl
  | succ n ih =>
    intro c hc
    by_cases e : c = 0
    · rw [e, oe_rf0, oe_rf0]
    · obtain ⟨g1, g2, g3, g4, g5⟩ := h c (hc e) e
      simp only [oe_rf, if_neg e, g1, g2, g3]
      rw [ih (nx c) g5]
      by_cases e2 : fd c = 0
      · rw [if_pos e2, if_pos e2, ih (ch c) (g4 e2)]
      · rw [if_neg e2, if_neg e2]
theorem oe_rt_same {fd ch nx fd' ch' nx' : Nat → Nat} (G : Nat → Prop) (h : ∀ c, G c → c ≠ 0 → fd' c = fd c ∧ ch' c = ch c ∧ nx' c = nx c ∧ (fd c = 0 → ch c ≠ 0 → G (ch c)) ∧ (nx c ≠ 0 → G (nx c))) (c : Nat) (hc : c ≠ 0 → G c) : oe_rt fd' ch' nx' c = oe_rt fd ch nx c := oe_rf_same G h 41 c hc
section
variable {D : Nat → Prop} {r N : Nat} {ab ch nx bf pl sz : Nat → Nat}
theorem oe_rf_fuel (fd : Nat → Nat) (T : oe_T D r N ab ch nx bf pl sz) : ∀ n m c, D c → c ≠ r → N ≤ pl c + n → N ≤ pl c + m → oe_rf fd ch nx n c = oe_rf fd ch nx m c := by
  obtain ⟨⟨hr, hr0, hrN⟩, hb, hc0, hc, ha, hn0, hn, hb0, hbf, hinj, hsur⟩ := T
  intro n
  induction n with
  | zero =>
    intro m c h1 h2 h3 _
    have := hb c h1
    omega
  | succ n ih =>
    intro m c hcD hcr h1 h2
    have hb1 := hb c hcD
    cases m with
    | zero => omega
    | succ m =>
      have c0 := (ha c hcD hcr).1
      have A : oe_rf fd ch nx n (ch c) = oe_rf fd ch nx m (ch c) := by
        by_cases e : ch c = 0
        · rw [e, oe_rf0, oe_rf0]
        · obtain ⟨d1, d2, d3, d4⟩ := hc c hcD e
          exact ih m (ch c) d1 (fun z => by
            have := congrArg pl z
            omega) (by omega) (by omega)
      have B : oe_rf fd ch nx n (nx c) = oe_rf fd ch nx m (nx c) := by
        by_cases e : nx c = 0
        · rw [e, oe_rf0, oe_rf0]
        · obtain ⟨d1, d2, d3, d4⟩ := hn c hcD hcr e
          exact ih m (nx c) d1 (fun z => by
            have := congrArg pl z
            omega) (by omega) (by omega)
      simp only [oe_rf, A, B]
theorem oe_rt_eq (fd : Nat → Nat) (T : oe_T D r N ab ch nx bf pl sz) {c : Nat} (hc : D c) (hcr : c ≠ r) : oe_rt fd ch nx c = 1 + (if fd c = 0 then oe_rt fd ch nx (ch c) else 0) + oe_rt fd ch nx (nx c) := by
  have hN := oe_N T
  have c0 := (T.2.2.2.2.1 c hc hcr).1
  have e : oe_rt fd ch nx c = oe_rf fd ch nx 42 c := oe_rf_fuel fd T 41 42 c hc hcr (by omega) (by omega)
  rw [e]
  show (if c = 0 then 0 else 1 + (if fd c = 0 then oe_rf fd ch nx 41 (ch c) else 0) + oe_rf fd ch nx 41 (nx c)) = _
  rw [if_neg c0]
  rfl
theorem oe_rt_z (T : oe_T D r N ab ch nx bf pl sz) {c : Nat} (hc : D c) (hcr : c ≠ r) : oe_rt oe_z ch nx c = 1 + oe_rt oe_z ch nx (ch c) + oe_rt oe_z ch nx (nx c) := by
  rw [oe_rt_eq oe_z T hc hcr, if_pos (show oe_z c = 0 from rfl)]
theorem oe_st (T : oe_T D r N ab ch nx bf pl sz) : ∀ n y, D y → N ≤ pl y + n → sz y = 1 + oe_rt oe_z ch nx (ch y) ∧ (y ≠ r → oe_rt oe_z ch nx y + pl y = pl (ab y) + sz (ab y)) := by
  have T' := T
  obtain ⟨⟨hr, hr0, hrN⟩, hb, hc0, hc, ha, hn0, hn, hb0, hbf, hinj, hsur⟩ := T
  intro n
  induction n with
  | zero =>
    intro y h1 h2
    have := hb y h1
    omega
  | succ n ih =>
    intro y hy h1
    have hb1 := hb y hy
    have A : sz y = 1 + oe_rt oe_z ch nx (ch y) := by
      by_cases e : ch y = 0
      · rw [e, oe_rt0, hc0 y hy e]
      · obtain ⟨d1, d2, d3, d4⟩ := hc y hy e
        have := (ih (ch y) d1 (by omega)).2 (fun z => by
          have := congrArg pl z
          omega)
        rw [d2] at this
        omega
    refine ⟨A, fun yr => ?_⟩
    rw [oe_rt_z T' hy yr]
    by_cases e : nx y = 0
    · have := hn0 y hy yr e
      rw [e, oe_rt0]
      omega
    · obtain ⟨d1, d2, d3, d4⟩ := hn y hy yr e
      have := (ih (nx y) d1 (by omega)).2 (fun z => by
        have := congrArg pl z
        omega)
      rw [d2] at this
      omega
theorem oe_sz (T : oe_T D r N ab ch nx bf pl sz) {y : Nat} (hy : D y) : 1 + oe_rt oe_z ch nx (ch y) = sz y :=
  ((oe_st T N y hy (by omega)).1).symm
end
/-- depth, by fuel -/
def oe_df (ab : Nat → Nat) : Nat → Nat → Nat
  | 0 => fun _ => 0
  | n + 1 => fun x => if x = 0 then 0 else oe_df ab n (ab x) + 1
def oe_dp (ab : Nat → Nat) (x : Nat) : Nat := oe_df ab 41 x
theorem oe_df0 (ab : Nat → Nat) (n : Nat) : oe_df ab n 0 = 0 := by
  cases n with
  | zero => rfl
  | succ n => simp only [oe_df, if_true]
theorem oe_dp0 (ab : Nat → Nat) : oe_dp ab 0 = 0 := oe_df0 ab 41
section
variable {D : Nat → Prop} {N : Nat} {ab ch nx bf pl sz : Nat → Nat}
theorem oe_pl0 (T : oe_T D 0 N ab ch nx bf pl sz) {y : Nat} (hy : D y) (h : pl y = 0) : y = 0 :=
  T.2.2.2.2.2.2.2.2.2.1 y 0 hy T.1.1 (by rw [h, T.1.2.1])
theorem oe_pl1 (T : oe_T D 0 N ab ch nx bf pl sz) {y : Nat} (hy : D y) (h : y ≠ 0) : 1 ≤ pl y := by
  rcases Nat.eq_zero_or_pos (pl y) with e | e
  · exact absurd (oe_pl0 T hy e) h
  · exact e
theorem oe_df_fuel (T : oe_T D 0 N ab ch nx bf pl sz) : ∀ n m y, D y → pl y ≤ n → pl y ≤ m → oe_df ab n y = oe_df ab m y := by
  intro n
  induction n with
  | zero =>
    intro m y hy h1 _
    rw [oe_pl0 T hy (by omega), oe_df0, oe_df0]
  | succ n ih =>
    intro m y hy h1 h2
    by_cases e : y = 0
    · rw [e, oe_df0, oe_df0]
    · have h3 := oe_pl1 T hy e
      obtain ⟨_, g2, g3, _⟩ := T.2.2.2.2.1 y hy e
      cases m with
      | zero => omega
      | succ m =>
        simp only [oe_df, if_neg e]
        rw [ih m (ab y) g2 (by omega) (by omega)]
theorem oe_dp_eq (T : oe_T D 0 N ab ch nx bf pl sz) {y : Nat} (hy : D y) (h : y ≠ 0) : oe_dp ab y = oe_dp ab (ab y) + 1 := by
  have hN := oe_N T
  have := T.2.1 y hy
  have e : oe_dp ab y = oe_df ab 42 y := oe_df_fuel T 41 42 y hy (by omega) (by omega)
  rw [e]
  show (if y = 0 then 0 else oe_df ab 41 (ab y) + 1) = _
  rw [if_neg h]
  rfl
theorem oe_dp_le (T : oe_T D 0 N ab ch nx bf pl sz) : ∀ n y, D y → pl y ≤ n → oe_dp ab y ≤ pl y := by
  intro n
  induction n with
  | zero =>
    intro y hy h
    rw [oe_pl0 T hy (by omega), oe_dp0]
    omega
  | succ n ih =>
    intro y hy h
    by_cases e : y = 0
    · rw [e, oe_dp0]
      omega
    · obtain ⟨_, g2, g3, _⟩ := T.2.2.2.2.1 y hy e
      have := ih (ab y) g2 (by omega)
      rw [oe_dp_eq T hy e]
      omega
theorem oe_dp_mono (T : oe_T D 0 N ab ch nx bf pl sz) : ∀ n y z, D y → D z → pl z ≤ n → pl y ≤ pl z → pl z < pl y + sz y → oe_dp ab y ≤ oe_dp ab z := by
  intro n
  induction n with
  | zero =>
    intro y z hy hz h1 h2 h3
    rw [oe_pl0 T hy (by omega), oe_pl0 T hz (by omega)]
    exact Nat.le_refl _
  | succ n ih =>
    intro y z hy hz h1 h2 h3
    by_cases e : pl y = pl z
    · rw [T.2.2.2.2.2.2.2.2.2.1 y z hy hz e]
      exact Nat.le_refl _
    · have z0 : z ≠ 0 := fun e3 => by
        have := congrArg pl e3
        have := T.1.2.1
        omega
      obtain ⟨_, g2, g3, g4⟩ := T.2.2.2.2.1 z hz z0
      obtain ⟨q1, q2⟩ := oe_lam' T hy hz (by omega) h3
      have := ih y (ab z) hy g2 (by omega) q1 (by
        have := T.2.1 z hz
        omega)
      rw [oe_dp_eq T hz z0]
      omega
/-- from one heading to the one behind it the depth grows by one at most -/
theorem oe_dp_next (T : oe_T D 0 N ab ch nx bf pl sz) {y z : Nat} (hy : D y) (hz : D z) (h : pl z = pl y + 1) : oe_dp ab z ≤ oe_dp ab y + 1 := by
  have z0 : z ≠ 0 := fun e3 => by
    have := congrArg pl e3
    have := T.1.2.1
    omega
  obtain ⟨_, g2, g3, g4⟩ := T.2.2.2.2.1 z hz z0
  have := T.2.1 z hz
  have := oe_dp_mono T (pl y) (ab z) y g2 hy (Nat.le_refl _) (by omega) (by omega)
  rw [oe_dp_eq T hz z0]
  omega
end
end
section
section
variable {D : Nat → Prop} {N : Nat} {ab ch nx bf pl sz : Nat → Nat}
/-- a branch is taken out: what is left is a tree -/
theorem oe_cut (T : oe_T D 0 N ab ch nx bf pl sz) {x : Nat} (hx : D x) (x0 : x ≠ 0) {ch' nx' bf' pl' sz' : Nat → Nat}
    (c1 : bf x = 0 → ch' (ab x) = nx x) (c2 : ∀ y, (y ≠ ab x ∨ bf x ≠ 0) → ch' y = ch y)
    (n1 : bf x ≠ 0 → nx' (bf x) = nx x) (n2 : ∀ y, y ≠ bf x → nx' y = nx y)
    (b1 : nx x ≠ 0 → bf' (nx x) = bf x) (b2 : ∀ y, y ≠ nx x → bf' y = bf y)
    (p1 : ∀ y, pl y < pl x → pl' y = pl y) (p2 : ∀ y, pl x + sz x ≤ pl y → pl' y + sz x = pl y)
    (s1 : ∀ y, pl y < pl x → pl x + sz x ≤ pl y + sz y → sz' y + sz x = sz y) (s2 : ∀ y, (pl y < pl x → pl y + sz y ≤ pl x) → sz' y = sz y) :
    oe_T (fun y => D y ∧ (pl y < pl x ∨ pl x + sz x ≤ pl y)) 0 (N - sz x) ab ch' nx' bf' pl' sz' := by
  have T' := T
  obtain ⟨⟨hr, hr0, hrN⟩, hb, hc0, hc, ha, hn0, hn, hb0, hbf, hinj, hsur⟩ := T
  obtain ⟨_, hp, hpl, hpe⟩ := ha x hx x0
  have hbx := hb x hx
  have K : ∀ y, D y → (pl y < pl x ∨ pl x + sz x ≤ pl y) → (pl y < pl x ∧ pl x + sz x ≤ pl y + sz y ∧ pl' y = pl y ∧ sz' y + sz x = sz y) ∨ (pl y < pl x ∧ pl y + sz y ≤ pl x ∧ pl' y = pl y ∧ sz' y = sz y) ∨ (pl x + sz x ≤ pl y ∧ pl' y + sz x = pl y ∧ sz' y = sz y) := by
    intro y hy h
    rcases h with h | h
    · by_cases g : pl x < pl y + sz y
      · have := oe_nest T' hy hx (by omega) g
        exact Or.inl ⟨h, this, p1 y h, s1 y h this⟩
      · exact Or.inr (Or.inl ⟨h, by omega, p1 y h, s2 y (fun _ => by omega)⟩)
    · exact Or.inr (Or.inr ⟨h, p2 y h, s2 y (fun z => by omega)⟩)
  have IN : ∀ y, D y → pl x ≤ pl y → pl y < pl x + sz x → pl y + sz y ≤ pl x + sz x := fun y hy h1 h2 => oe_nest T' hx hy h1 h2
  have XB : bf x = 0 → ch (ab x) = x ∧ pl x = pl (ab x) + 1 := fun e => by
    have h := hb0 x hx x0 e
    have h2 := (hc (ab x) hp (by rw [h]; exact x0)).2.2.2
    rw [h] at h2
    exact ⟨h, h2⟩
  have XF : bf x ≠ 0 → D (bf x) ∧ nx (bf x) = x ∧ ab (bf x) = ab x ∧ pl x = pl (bf x) + sz (bf x) := fun e => by
    obtain ⟨h1, h2, h3⟩ := hbf x hx x0 e
    obtain ⟨g1, g2, g3, g4⟩ := hn (bf x) h1 h2 (by rw [h3]; exact x0)
    rw [h3] at g2 g4
    exact ⟨h1, h3, g2.symm, g4⟩
  have XN0 := hn0 x hx x0
  have XN := hn x hx x0
  have HD : ∀ y, D y → y ≠ 0 → (pl y < pl x ∨ pl x + sz x ≤ pl y) → (pl (ab y) < pl x ∨ pl x + sz x ≤ pl (ab y)) := by
    intro y hy y0 hd
    obtain ⟨_, d2, d3, d4⟩ := ha y hy y0
    have hby := hb y hy
    rcases Nat.lt_or_ge (pl (ab y)) (pl x) with q | q
    · exact Or.inl q
    · rcases Nat.lt_or_ge (pl (ab y)) (pl x + sz x) with q2 | q2
      · have := IN (ab y) d2 q q2
        omega
      · exact Or.inr q2
  refine ⟨⟨⟨hr, Or.inl (by omega)⟩, ?_, ?_⟩, ?_, ?_, ?_, ?_, ?_, ?_, ?_, ?_, ?_, ?_⟩
  · rw [p1 0 (by omega), hr0]
  · have := s1 0 (by omega) (by omega)
    omega
  · intro y ⟨hy, hd⟩
    have k := K y hy hd
    have k2 := hb y hy
    exact ⟨by omega, by omega, by omega⟩
  · intro y ⟨hy, hd⟩ e
    have k := K y hy hd
    by_cases g : y = ab x ∧ bf x = 0
    · obtain ⟨g1, g2⟩ := g
      subst g1
      rw [c1 g2] at e
      have q1 := XN0 e
      have q2 := (XB g2).2
      omega
    · rw [c2 y (by omega)] at e
      have := hc0 y hy e
      omega
  · intro y ⟨hy, hd⟩ e
    by_cases g : y = ab x ∧ bf x = 0
    · obtain ⟨g1, g2⟩ := g
      subst g1
      have e1 := c1 g2
      rw [e1] at e ⊢
      obtain ⟨d1, d2, d3, d4⟩ := XN e
      have k := K (nx x) d1 (Or.inr (by omega))
      have k2 := K (ab x) hy hd
      have q2 := (XB g2).2
      exact ⟨⟨d1, Or.inr (by omega)⟩, d2, by rw [b1 e, g2], by omega⟩
    · rw [c2 y (by omega)] at e ⊢
      obtain ⟨d1, d2, d3, d4⟩ := hc y hy e
      have nxx : ch y ≠ x := fun z => g ⟨by rw [← z, d2], by rw [← z]; exact d3⟩
      have hne : pl (ch y) ≠ pl x := fun z => nxx (hinj _ _ d1 hx z)
      have hd' : pl (ch y) < pl x ∨ pl x + sz x ≤ pl (ch y) := by omega
      have k := K y hy hd
      have k2 := K (ch y) d1 hd'
      have nn : ch y ≠ nx x := fun z => by
        have q := (XN (by rw [← z]; exact e)).2.2.1
        rw [← z, d3] at q
        exact x0 q.symm
      exact ⟨⟨d1, hd'⟩, d2, by rw [b2 _ nn, d3], by omega⟩
  · intro y ⟨hy, hd⟩ y0
    obtain ⟨_, d2, d3, d4⟩ := ha y hy y0
    have hd' := HD y hy y0 hd
    have k := K y hy hd
    have k2 := K _ d2 hd'
    have hby := hb y hy
    exact ⟨y0, ⟨d2, hd'⟩, by omega, by omega⟩
  · intro y ⟨hy, hd⟩ y0 e
    obtain ⟨_, d2, d3, d4⟩ := ha y hy y0
    have hd' := HD y hy y0 hd
    have k := K y hy hd
    have k2 := K _ d2 hd'
    have hby := hb y hy
    by_cases g : y = bf x
    · subst g
      obtain ⟨q1, q3, q4, q5⟩ := XF y0
      rw [n1 y0] at e
      have q6 := XN0 e
      rw [q4] at k2 d3 d4 ⊢
      omega
    · rw [n2 y g] at e
      have := hn0 y hy y0 e
      omega
  · intro y ⟨hy, hd⟩ y0 e
    have hby := hb y hy
    by_cases g : y = bf x
    · subst g
      obtain ⟨q1, q3, q4, q5⟩ := XF y0
      rw [n1 y0] at e ⊢
      obtain ⟨d1, d2, d3, d4⟩ := XN e
      have hd' : pl (nx x) < pl x ∨ pl x + sz x ≤ pl (nx x) := Or.inr (by omega)
      have k := K (bf x) hy hd
      have k2 := K (nx x) d1 hd'
      exact ⟨⟨d1, hd'⟩, by rw [d2, q4], b1 e, by omega⟩
    · rw [n2 y g] at e ⊢
      obtain ⟨d1, d2, d3, d4⟩ := hn y hy y0 e
      have ne : nx y ≠ x := fun z => g (by rw [← z]; exact d3.symm)
      have hne : pl (nx y) ≠ pl x := fun z => ne (hinj _ _ d1 hx z)
      have k := K y hy hd
      have hd' : pl (nx y) < pl x ∨ pl x + sz x ≤ pl (nx y) := by omega
      have k2 := K (nx y) d1 hd'
      have nn : nx y ≠ nx x := fun z => by
        have q := (XN (by rw [← z]; exact e)).2.2.1
        rw [← z, d3] at q
        have := congrArg pl q
        omega
      exact ⟨⟨d1, hd'⟩, d2, by rw [b2 _ nn, d3], by omega⟩
  · intro y ⟨hy, hd⟩ y0 e
    by_cases g : y = nx x
    · subst g
      rw [b1 y0] at e
      rw [(XN y0).2.1, c1 e]
    · rw [b2 y g] at e
      have h8 := hb0 y hy y0 e
      rw [c2 (ab y) ?_, h8]
      refine Classical.byContradiction fun hne => ?_
      have q1 : ab y = ab x := by omega
      have q2 : bf x = 0 := by omega
      rw [q1, (XB q2).1] at h8
      have := congrArg pl h8
      omega
  · intro y ⟨hy, hd⟩ y0 e
    by_cases g : y = nx x
    · subst g
      rw [b1 y0] at e ⊢
      obtain ⟨q1, q3, q4, q5⟩ := XF e
      have := hb _ q1
      exact ⟨⟨q1, Or.inl (by omega)⟩, e, n1 e⟩
    · rw [b2 y g] at e ⊢
      obtain ⟨d1, d2, d3⟩ := hbf y hy y0 e
      obtain ⟨f1, f2, f3, f4⟩ := hn (bf y) d1 d2 (by rw [d3]; exact y0)
      rw [d3] at f2 f4
      have wx : bf y ≠ x := fun z => g (by rw [← z, d3])
      have hne : pl (bf y) ≠ pl x := fun z => wx (hinj _ _ d1 hx z)
      have hby := hb y hy
      have hbw := hb (bf y) d1
      have hd' : pl (bf y) < pl x ∨ pl x + sz x ≤ pl (bf y) := by
        rcases Nat.lt_or_ge (pl (bf y)) (pl x) with q | q
        · exact Or.inl q
        · rcases Nat.lt_or_ge (pl (bf y)) (pl x + sz x) with q2 | q2
          · have l := oe_lam' T' hx d1 (by omega) q2
            have v := (ha y hy y0).2.2
            rw [f2] at v
            omega
          · exact Or.inr q2
      have nb : bf y ≠ bf x := fun z => by
        have q := (XF (by rw [← z]; exact e)).2.1
        rw [← z, d3] at q
        have := congrArg pl q
        omega
      exact ⟨⟨d1, hd'⟩, d2, by rw [n2 _ nb, d3]⟩
  · intro y z ⟨hy, hd⟩ ⟨hz, hd2⟩ e
    have k := K y hy hd
    have k2 := K z hz hd2
    exact hinj y z hy hz (by omega)
  · intro i hi
    by_cases g : i < pl x
    · obtain ⟨y, q1, q2⟩ := hsur i (by omega)
      exact ⟨y, ⟨q1, Or.inl (by omega)⟩, by rw [p1 y (by omega), q2]⟩
    · obtain ⟨y, q1, q2⟩ := hsur (i + sz x) (by omega)
      have := p2 y (by omega)
      exact ⟨y, ⟨q1, Or.inr (by omega)⟩, by omega⟩
/-- a branch is taken out: it is a tree -/
theorem oe_sub (T : oe_T D 0 N ab ch nx bf pl sz) {x : Nat} (hx : D x) (x0 : x ≠ 0) {ch' nx' bf' pm : Nat → Nat}
    (c2 : ∀ y, (y ≠ ab x ∨ bf x ≠ 0) → ch' y = ch y) (n2 : ∀ y, y ≠ bf x → nx' y = nx y) (b2 : ∀ y, y ≠ nx x → bf' y = bf y)
    (m1 : ∀ y, pl x ≤ pl y → pm y + pl x = pl y) :
    oe_T (fun y => D y ∧ pl x ≤ pl y ∧ pl y < pl x + sz x) x (sz x) ab ch' nx' bf' pm sz := by
  have T' := T
  obtain ⟨⟨hr, hr0, hrN⟩, hb, hc0, hc, ha, hn0, hn, hb0, hbf, hinj, hsur⟩ := T
  obtain ⟨_, hp, hpl, hpe⟩ := ha x hx x0
  have hbx := hb x hx
  have XF : bf x ≠ 0 → D (bf x) ∧ pl x = pl (bf x) + sz (bf x) := fun e => by
    obtain ⟨h1, h2, h3⟩ := hbf x hx x0 e
    obtain ⟨g1, g2, g3, g4⟩ := hn (bf x) h1 h2 (by rw [h3]; exact x0)
    rw [h3] at g4
    exact ⟨h1, g4⟩
  have XN := hn x hx x0
  have Z : ∀ y, D y → pl x ≤ pl y → y ≠ 0 := fun y hy h e => by
    have := congrArg pl e
    omega
  have L : ∀ y, D y → pl x ≤ pl y → pl y < pl x + sz x → y ≠ x → pl x < pl y ∧ pl x ≤ pl (ab y) ∧ pl (ab y) + sz (ab y) ≤ pl x + sz x := by
    intro y hy h1 h2 h3
    have : pl y ≠ pl x := fun e => h3 (hinj y x hy hx e)
    have := oe_lam' T' hx hy (by omega) h2
    exact ⟨by omega, this.1, this.2⟩
  have S : oe_T (fun y => D y ∧ pl x ≤ pl y ∧ pl y < pl x + sz x) x (sz x) ab ch nx bf pm sz := by
    refine ⟨⟨⟨hx, by omega, by omega⟩, ?_, rfl⟩, ?_, ?_, ?_, ?_, ?_, ?_, ?_, ?_, ?_, ?_⟩
    · have := m1 x (by omega)
      omega
    · intro y ⟨hy, h1, h2⟩
      have k := hb y hy
      have k2 := oe_nest T' hx hy h1 h2
      have k3 := m1 y h1
      exact ⟨by omega, by omega, by omega⟩
    · intro y ⟨hy, h1, h2⟩ e
      exact hc0 y hy e
    · intro y ⟨hy, h1, h2⟩ e
      obtain ⟨d1, d2, d3, d4⟩ := hc y hy e
      have k := (ha (ch y) d1 e).2.2.2
      rw [d2] at k
      have k2 := oe_nest T' hx hy h1 h2
      have k3 := hb (ch y) d1
      have k4 := m1 y h1
      have k5 := m1 (ch y) (by omega)
      exact ⟨⟨d1, by omega, by omega⟩, d2, d3, by omega⟩
    · intro y ⟨hy, h1, h2⟩ e
      have y0 := Z y hy h1
      obtain ⟨_, d2, d3, d4⟩ := ha y hy y0
      have l := L y hy h1 h2 e
      have k4 := m1 y h1
      have k5 := m1 (ab y) (by omega)
      exact ⟨y0, ⟨d2, by omega, by omega⟩, by omega, by omega⟩
    · intro y ⟨hy, h1, h2⟩ e e2
      have l := L y hy h1 h2 e
      have k4 := m1 y h1
      have k5 := m1 (ab y) (by omega)
      have := hn0 y hy (Z y hy h1) e2
      omega
    · intro y ⟨hy, h1, h2⟩ e e2
      have l := L y hy h1 h2 e
      obtain ⟨d1, d2, d3, d4⟩ := hn y hy (Z y hy h1) e2
      have k := (ha (nx y) d1 e2).2.2.2
      rw [d2] at k
      have k3 := hb (nx y) d1
      have k4 := m1 y h1
      have k5 := m1 (nx y) (by omega)
      exact ⟨⟨d1, by omega, by omega⟩, d2, d3, by omega⟩
    · intro y ⟨hy, h1, h2⟩ e e2
      exact hb0 y hy (Z y hy h1) e2
    · intro y ⟨hy, h1, h2⟩ e e2
      have y0 := Z y hy h1
      have l := L y hy h1 h2 e
      obtain ⟨d1, d2, d3⟩ := hbf y hy y0 e2
      obtain ⟨f1, f2, f3, f4⟩ := hn (bf y) d1 d2 (by rw [d3]; exact y0)
      rw [d3] at f2 f4
      have k := (ha (bf y) d1 d2).2.2.1
      rw [← f2] at k
      exact ⟨⟨d1, by omega, by omega⟩, fun z => by
        have := congrArg pl z
        omega, d3⟩
    · intro y z ⟨hy, h1, h2⟩ ⟨hz, h3, h4⟩ e
      have k4 := m1 y h1
      have k5 := m1 z h3
      exact hinj y z hy hz (by omega)
    · intro i hi
      obtain ⟨y, q1, q2⟩ := hsur (pl x + i) (by omega)
      have k4 := m1 y (by omega)
      exact ⟨y, ⟨q1, by omega, by omega⟩, by omega⟩
  refine oe_frame S (fun y => Iff.rfl) ?_ ?_
  · intro y ⟨hy, h1, h2⟩
    exact ⟨c2 y (Or.inl (fun e => by
      have := congrArg pl e
      omega)), rfl, rfl⟩
  · intro y ⟨hy, h1, h2⟩ e
    have y0 := Z y hy h1
    refine ⟨rfl, n2 y (fun z => ?_), b2 y (fun z => ?_)⟩
    · have q := XF (by rw [← z]; exact y0)
      rw [← z] at q
      have := hb y hy
      omega
    · have q := (XN (by rw [← z]; exact y0)).2.2.2
      rw [← z] at q
      omega
end
end
section
section
variable {D E : Nat → Prop} {N k x p s t a : Nat} {ab ch nx bf pl sz pm sm ab' ch' nx' bf' pl' sz' : Nat → Nat}
/-- a branch is put below p, behind s (as the first one for s = 0) -/
theorem oe_put (T : oe_T D 0 N ab ch nx bf pl sz) (S : oe_T E x k ab ch nx bf pm sm) (dj : ∀ y, D y → E y → False)
    (hp : D p) (hs : s ≠ 0 → D s ∧ ab s = p) (t0 : s = 0 → t = ch p) (t1 : s ≠ 0 → t = nx s) (a0 : s = 0 → a = pl p + 1) (a1 : s ≠ 0 → a = pl s + sz s)
    (A1 : ab' x = p) (A2 : ∀ y, y ≠ x → ab' y = ab y)
    (B1 : bf' x = s) (B2 : t ≠ 0 → bf' t = x) (B3 : ∀ y, y ≠ x → y ≠ t → bf' y = bf y)
    (N1 : nx' x = t) (N2 : s ≠ 0 → nx' s = x) (N3 : ∀ y, y ≠ x → y ≠ s → nx' y = nx y)
    (C1 : s = 0 → ch' p = x) (C2 : ∀ y, (y ≠ p ∨ s ≠ 0) → ch' y = ch y)
    (P1 : ∀ y, E y → pl' y = a + pm y) (P2 : ∀ y, D y → pl y < a → pl' y = pl y) (P3 : ∀ y, D y → a ≤ pl y → pl' y = pl y + k)
    (S1 : ∀ y, E y → sz' y = sm y) (S2 : ∀ y, D y → pl y ≤ pl p → pl p < pl y + sz y → sz' y = sz y + k) (S3 : ∀ y, D y → (pl p < pl y ∨ pl y + sz y ≤ pl p) → sz' y = sz y) :
    oe_T (fun y => D y ∨ E y) 0 (N + k) ab' ch' nx' bf' pl' sz' := by
  have T' := T
  have S' := S
  obtain ⟨⟨hr, hr0, hrN⟩, hb, hc0, hc, ha, hn0, hn, hb0, hbf, hinj, hsur⟩ := T
  obtain ⟨⟨er, er0, erN⟩, eb, ec0, ec, ea, en0, en, eb0, ebf, einj, esur⟩ := S
  have x0 : x ≠ 0 := fun e => dj 0 hr (by rw [← e]; exact er)
  have xD : ¬ D x := fun h => dj x h er
  have DE : ∀ y, D y → y ≠ x := fun y hy e => xD (by rw [← e]; exact hy)
  have hbp := hb p hp
  have ebx := eb x er
  have sF : s ≠ 0 → D s ∧ ab s = p ∧ pl p < pl s ∧ pl s + sz s ≤ pl p + sz p ∧ 1 ≤ sz s := fun e => by
    obtain ⟨g1, g2⟩ := hs e
    obtain ⟨_, _, g3, g4⟩ := ha s g1 e
    rw [g2] at g3 g4
    exact ⟨g1, g2, g3, g4, (hb s g1).2.1⟩
  have aF : pl p < a ∧ a ≤ pl p + sz p := by
    by_cases e : s = 0
    · have := a0 e
      omega
    · have := a1 e
      have := sF e
      omega
  have tF : t ≠ 0 → D t ∧ ab t = p ∧ pl t = a ∧ bf t = s := fun e => by
    by_cases e2 : s = 0
    · have e3 := t0 e2
      obtain ⟨g1, g2, g3, g4⟩ := hc p hp (by rw [← e3]; exact e)
      rw [← e3] at g1 g2 g3 g4
      exact ⟨g1, g2, by rw [g4, a0 e2], by rw [g3, e2]⟩
    · have e3 := t1 e2
      obtain ⟨h1, h2, _⟩ := sF e2
      obtain ⟨g1, g2, g3, g4⟩ := hn s h1 e2 (by rw [← e3]; exact e)
      rw [← e3] at g1 g2 g3 g4
      exact ⟨g1, by rw [g2, h2], by rw [g4, a1 e2], g3⟩
  have tZ : t = 0 → a = pl p + sz p := fun e => by
    by_cases e2 : s = 0
    · have e3 := t0 e2
      have := hc0 p hp (by rw [← e3]; exact e)
      have := a0 e2
      omega
    · have e3 := t1 e2
      obtain ⟨h1, h2, _⟩ := sF e2
      have := hn0 s h1 e2 (by rw [← e3]; exact e)
      rw [h2] at this
      rw [a1 e2, this]
  have Et : ∀ y, E y → y ≠ 0 → y ≠ t := fun y hy y0 e => dj y (by
    rw [e] at y0 ⊢
    exact (tF y0).1) hy
  have Es : ∀ y, E y → y ≠ 0 → y ≠ s := fun y hy y0 e => dj y (by
    rw [e] at y0 ⊢
    exact (sF y0).1) hy
  have Ep : ∀ y, E y → y ≠ p := fun y hy e => dj y (by
    rw [e]
    exact hp) hy
  have E0 : ∀ y, E y → y ≠ 0 := fun y hy e => dj y (by
    rw [e]
    exact hr) hy
  have K : ∀ y, D y → (pl y ≤ pl p ∧ pl p < pl y + sz y ∧ pl p + sz p ≤ pl y + sz y ∧ pl' y = pl y ∧ sz' y = sz y + k) ∨ ((pl p < pl y ∨ pl y + sz y ≤ pl p) ∧ pl y < a ∧ pl y + sz y ≤ a ∧ pl' y = pl y ∧ sz' y = sz y) ∨ (pl p < pl y ∧ a ≤ pl y ∧ pl' y = pl y + k ∧ sz' y = sz y) := by
    intro y hy
    have hby := hb y hy
    by_cases g : pl y ≤ pl p ∧ pl p < pl y + sz y
    · exact Or.inl ⟨g.1, g.2, oe_nest T' hy hp g.1 g.2, P2 y hy (by omega), S2 y hy g.1 g.2⟩
    · by_cases g2 : a ≤ pl y
      · exact Or.inr (Or.inr ⟨by omega, g2, P3 y hy g2, S3 y hy (by omega)⟩)
      · refine Or.inr (Or.inl ⟨by omega, by omega, ?_, P2 y hy (by omega), S3 y hy (by omega)⟩)
        by_cases g3 : pl y + sz y ≤ pl p
        · omega
        · by_cases e : s = 0
          · have := a0 e
            omega
          · have q := a1 e
            obtain ⟨h1, h2, h3, h4, h5⟩ := sF e
            by_cases g4 : pl s ≤ pl y
            · have := oe_nest T' h1 hy g4 (by omega)
              omega
            · by_cases g5 : pl y + sz y ≤ pl s
              · omega
              · have l := oe_lam' T' hy h1 (by omega) (by omega)
                rw [h2] at l
                omega
  refine ⟨⟨Or.inl hr, ?_, ?_⟩, ?_, ?_, ?_, ?_, ?_, ?_, ?_, ?_, ?_, ?_⟩
  · rw [P2 0 hr (by omega), hr0]
  · rw [S2 0 hr (by omega) (by omega), hrN]
  · rintro y (hy | hy)
    · have k1 := K y hy
      have k2 := hb y hy
      exact ⟨by omega, by omega, by omega⟩
    · have k2 := eb y hy
      have k3 := P1 y hy
      have k4 := S1 y hy
      exact ⟨by omega, by omega, by omega⟩
  · rintro y (hy | hy) e
    · by_cases g : y = p ∧ s = 0
      · obtain ⟨g1, g2⟩ := g
        rw [g1, C1 g2] at e
        exact absurd e x0
      · rw [C2 y (by omega)] at e
        have k1 := K y hy
        have k2 := hc0 y hy e
        by_cases g3 : pl y = pl p
        · have e3 := hinj y p hy hp g3
          have e4 := congrArg sz e3
          have h := sF (by omega)
          omega
        · omega
    · rw [C2 y (Or.inl (Ep y hy))] at e
      rw [S1 y hy]
      exact ec0 y hy e
  · rintro y (hy | hy) e
    · by_cases g : y = p ∧ s = 0
      · obtain ⟨g1, g2⟩ := g
        have e5 := C1 g2
        rw [g1, e5]
        have k1 := P1 x er
        have k2 := P2 p hp (by omega)
        have k3 := a0 g2
        exact ⟨Or.inr er, A1, by rw [B1, g2], by omega⟩
      · rw [C2 y (by omega)] at e ⊢
        obtain ⟨d1, d2, d3, d4⟩ := hc y hy e
        have cx := DE _ d1
        have ct : ch y ≠ t := fun z => by
          have q := tF (by rw [← z]; exact e)
          rw [← z, d2, d3] at q
          exact g ⟨q.2.1, q.2.2.2.symm⟩
        have k1 := K y hy
        have k2 := K (ch y) d1
        have k3 := (ha (ch y) d1 e).2.2.2
        rw [d2] at k3
        have k4 := hb (ch y) d1
        refine ⟨Or.inl d1, by rw [A2 _ cx, d2], by rw [B3 _ cx ct, d3], ?_⟩
        by_cases g3 : pl y + 1 = a
        · exfalso
          have g4 : pl y = pl p := by omega
          have e3 := hinj y p hy hp g4
          have s0 : s ≠ 0 := by omega
          have h := sF s0
          have := a1 s0
          omega
        · omega
    · rw [C2 y (Or.inl (Ep y hy))] at e ⊢
      obtain ⟨d1, d2, d3, d4⟩ := ec y hy e
      have cx : ch y ≠ x := fun z => by
        have := congrArg pm z
        omega
      have k1 := P1 y hy
      have k2 := P1 _ d1
      exact ⟨Or.inr d1, by rw [A2 _ cx, d2], by rw [B3 _ cx (Et _ d1 e), d3], by omega⟩
  · rintro y (hy | hy) y0
    · obtain ⟨_, d2, d3, d4⟩ := ha y hy y0
      rw [A2 y (DE y hy)]
      have k1 := K y hy
      have k2 := K _ d2
      have k3 := hb y hy
      exact ⟨y0, Or.inl d2, by omega, by omega⟩
    · by_cases g : y = x
      · rw [g, A1]
        have k1 := K p hp
        have k2 := P1 x er
        have k3 := S1 x er
        exact ⟨x0, Or.inl hp, by omega, by omega⟩
      · obtain ⟨_, d2, d3, d4⟩ := ea y hy g
        rw [A2 y g]
        have k1 := P1 y hy
        have k2 := P1 _ d2
        have k3 := S1 y hy
        have k4 := S1 _ d2
        exact ⟨y0, Or.inr d2, by omega, by omega⟩
  · rintro y (hy | hy) y0 e
    · have yx := DE y hy
      by_cases g : y = s
      · rw [g] at e y0
        rw [N2 y0] at e
        exact absurd e x0
      · rw [N3 y yx g] at e
        rw [A2 y yx]
        obtain ⟨_, d2, d3, d4⟩ := ha y hy y0
        have q := hn0 y hy y0 e
        have k1 := K y hy
        have k2 := K _ d2
        have k3 := hb y hy
        by_cases g3 : pl (ab y) ≤ pl p ∧ pl p < pl (ab y) + sz (ab y) ∧ pl y + sz y = a ∧ pl p < pl y
        · exfalso
          obtain ⟨g4, g5, g6, g7⟩ := g3
          have l := oe_lam' T' hp hy g7 (by omega)
          have e3 := hinj (ab y) p d2 hp (by omega)
          by_cases s0 : s = 0
          · have := a0 s0
            omega
          · have q2 := a1 s0
            obtain ⟨h1, h2, h3, h4, h5⟩ := sF s0
            rcases Nat.lt_trichotomy (pl s) (pl y) with g8 | g8 | g8
            · have l2 := oe_lam' T' h1 hy g8 (by omega)
              omega
            · exact g (hinj y s hy h1 g8.symm)
            · have l2 := oe_lam' T' hy h1 g8 (by omega)
              rw [h2] at l2
              omega
        · omega
    · by_cases g : y = x
      · rw [g] at e ⊢
        rw [N1] at e
        rw [A1]
        have k1 := K p hp
        have k2 := P1 x er
        have k3 := S1 x er
        have k4 := tZ e
        omega
      · rw [N3 y g (Es y hy y0)] at e
        rw [A2 y g]
        obtain ⟨_, d2, d3, d4⟩ := ea y hy g
        have q := en0 y hy g e
        have k1 := P1 y hy
        have k2 := P1 _ d2
        have k3 := S1 y hy
        have k4 := S1 _ d2
        omega
  · rintro y (hy | hy) y0 e
    · have yx := DE y hy
      by_cases g : y = s
      · have s0 : s ≠ 0 := by rw [← g]; exact y0
        obtain ⟨h1, h2, h3, h4, h5⟩ := sF s0
        have k1 := K s h1
        have k2 := P1 x er
        have k3 := a1 s0
        rw [g, N2 s0, A1, A2 s (DE s h1), h2, B1]
        exact ⟨Or.inr er, rfl, rfl, by omega⟩
      · rw [N3 y yx g] at e ⊢
        obtain ⟨d1, d2, d3, d4⟩ := hn y hy y0 e
        have zx := DE _ d1
        have zt : nx y ≠ t := fun z => by
          have q := tF (by rw [← z]; exact e)
          rw [← z, d3] at q
          exact g q.2.2.2
        rw [A2 _ zx, A2 _ yx, B3 _ zx zt]
        have k1 := K y hy
        have k2 := K _ d1
        have k3 := hb y hy
        have k4 := hb _ d1
        refine ⟨Or.inl d1, d2, d3, ?_⟩
        by_cases g3 : pl y + sz y = a ∧ pl p < pl y ∧ pl y < a
        · exfalso
          obtain ⟨g4, g5, g6⟩ := g3
          by_cases te : t = 0
          · have q := tZ te
            have l := oe_lam' T' hp hy g5 (by omega)
            have k5 := (ha _ d1 e).2.2.2
            rw [d2] at k5
            omega
          · have q := tF te
            exact zt (hinj _ _ d1 q.1 (by omega))
        · omega
    · by_cases g : y = x
      · rw [g] at e ⊢
        rw [N1] at e ⊢
        have q := tF e
        have tx := DE t q.1
        have k1 := K t q.1
        have k2 := P1 x er
        have k3 := S1 x er
        rw [A2 t tx, A1, B2 e]
        exact ⟨Or.inl q.1, q.2.1, rfl, by omega⟩
      · rw [N3 y g (Es y hy y0)] at e ⊢
        obtain ⟨d1, d2, d3, d4⟩ := en y hy g e
        have k0 := eb y hy
        have zx : nx y ≠ x := fun z => by
          have := congrArg pm z
          omega
        rw [A2 _ zx, A2 _ g, B3 _ zx (Et _ d1 e)]
        have k1 := P1 y hy
        have k2 := P1 _ d1
        have k3 := S1 y hy
        exact ⟨Or.inr d1, d2, d3, by omega⟩
  · rintro y (hy | hy) y0 e
    · have yx := DE y hy
      by_cases g : y = t
      · rw [g] at e y0
        rw [B2 y0] at e
        exact absurd e x0
      · rw [B3 y yx g] at e
        have q := hb0 y hy y0 e
        rw [A2 y yx, C2 (ab y) ?_, q]
        refine Classical.byContradiction fun hne => ?_
        have q1 : ab y = p := by omega
        have q2 : s = 0 := by omega
        rw [q1] at q
        exact g (by rw [t0 q2, q])
    · by_cases g : y = x
      · rw [g] at e ⊢
        rw [B1] at e
        rw [A1, C1 e]
      · rw [B3 y g (Et y hy y0)] at e
        obtain ⟨_, d2, d3, d4⟩ := ea y hy g
        rw [A2 y g, C2 (ab y) (Or.inl (Ep _ d2))]
        exact eb0 y hy g e
  · rintro y (hy | hy) y0 e
    · have yx := DE y hy
      by_cases g : y = t
      · have t9 : t ≠ 0 := by rw [← g]; exact y0
        rw [g, B2 t9]
        exact ⟨Or.inr er, x0, N1⟩
      · rw [B3 y yx g] at e ⊢
        obtain ⟨d1, d2, d3⟩ := hbf y hy y0 e
        have ws : bf y ≠ s := fun z => by
          have := t1 (by rw [← z]; exact e)
          rw [← z, d3] at this
          exact g this.symm
        exact ⟨Or.inl d1, d2, by rw [N3 _ (DE _ d1) ws, d3]⟩
    · by_cases g : y = x
      · rw [g] at e ⊢
        rw [B1] at e ⊢
        exact ⟨Or.inl (sF e).1, e, N2 e⟩
      · rw [B3 y g (Et y hy y0)] at e ⊢
        obtain ⟨d1, d2, d3⟩ := ebf y hy g e
        exact ⟨Or.inr d1, e, by rw [N3 _ d2 (Es _ d1 e), d3]⟩
  · rintro y z (hy | hy) (hz | hz) e
    · have k1 := K y hy
      have k2 := K z hz
      exact hinj y z hy hz (by omega)
    · have k1 := K y hy
      have k2 := P1 z hz
      have k3 := eb z hz
      omega
    · have k1 := K z hz
      have k2 := P1 y hy
      have k3 := eb y hy
      omega
    · have k1 := P1 y hy
      have k2 := P1 z hz
      exact einj y z hy hz (by omega)
  · intro i hi
    by_cases g : i < a
    · obtain ⟨y, q1, q2⟩ := hsur i (by omega)
      exact ⟨y, Or.inl q1, by rw [P2 y q1 (by omega), q2]⟩
    · by_cases g2 : i < a + k
      · obtain ⟨y, q1, q2⟩ := esur (i - a) (by omega)
        have := P1 y q1
        exact ⟨y, Or.inr q1, by omega⟩
      · obtain ⟨y, q1, q2⟩ := hsur (i - k) (by omega)
        have := P3 y q1 (by omega)
        exact ⟨y, Or.inl q1, by omega⟩
end
end
section
def oe_f (f : Nat → Nat) : Nat → Int32 := fun k => nI (f k)
/-- the state, by naturals -/
abbrev oe_s (m : Nat) (us nm fd ab ch nx bf sA rA : Nat → Nat) : St1 := (nI m, oe_f us, oe_f nm, oe_f fd, oe_f ab, oe_f ch, oe_f nx, oe_f bf, oe_f sA, oe_f rA)
theorem oe_fc {f : Nat → Nat} {c : Nat} (h : c ≤ 40) : oe_f f (nI c).toNatClampNeg = nI (f c) := by
  rw [nI_clamp (by omega)]
  rfl
theorem oe_fa {f : Nat → Nat} {a c : Nat} (h : c ≤ 40) : nI a + oe_f f (nI c).toNatClampNeg = nI (a + f c) := by
  rw [oe_fc h, nI_add]
theorem oe_fu {f : Nat → Nat} {c v : Nat} (h : c ≤ 40) : upd (oe_f f) (nI c).toNatClampNeg (nI v) = oe_f (oe_u f c v) := by
  rw [nI_clamp (by omega)]
  funext j
  unfold upd oe_f oe_u
  by_cases e : j = c
  · rw [if_pos e, if_pos e]
  · rw [if_neg e, if_neg e]
def oe_one (x : Nat) : Nat := if x = 0 then 0 else 1
theorem oe_one0 : oe_one 0 = 0 := rfl
theorem oe_one1 {x : Nat} (h : x ≠ 0) : oe_one x = 1 := if_neg h
/-- the numbers of y are right -/
def oe_ok (fd ch nx sA rA : Nat → Nat) (y : Nat) : Prop := sA y = oe_one y + oe_rt oe_z ch nx (ch y) ∧ rA y = oe_one y + (if fd y = 0 then oe_rt fd ch nx (ch y) else 0)
section
variable {D : Nat → Prop} {r N : Nat} {ab ch nx bf pl sz : Nat → Nat} {m : Nat} {us nm fd sA rA : Nat → Nat}
theorem oe_pull23 {post : St1 → Prop} (T : oe_T D r N ab ch nx bf pl sz) {x : Nat} (hx : D x) (f1 : fd x ≤ 1)
    (R : ∀ c, D c → c ≠ r → ab c = x → oe_ok fd ch nx sA rA c) {vs vr : Nat}
    (hp : wX_pull_79 post (nI x) (nI vs) (nI vr) (nI m) (oe_f us) (oe_f nm) (oe_f fd) (oe_f ab) (oe_f ch) (oe_f nx) (oe_f bf) (oe_f sA) (oe_f rA)) :
    ∀ n c i all seen, 41 ≤ n + i → (c ≠ 0 → D c ∧ c ≠ r ∧ ab c = x ∧ i + 1 ≤ pl c) → i ≤ 40 → all + oe_rt oe_z ch nx c = vs → seen + (if fd x = 0 then oe_rt fd ch nx c else 0) = vr →
      wX_pull_23 post (nI x) (nI m) (oe_f us) (oe_f nm) (oe_f fd) (oe_f ab) (oe_f ch) (oe_f nx) (oe_f bf) (oe_f sA) (oe_f rA) n (nI all) (nI seen) (nI c) (nI i) := by
  have hN := oe_N T
  have T' := T
  obtain ⟨⟨hr, hr0, hrN⟩, hb, hc0, hc, ha, hn0, hn, hb0, hbf, hinj, hsur⟩ := T
  have x40 := (hb x hx).1
  intro n
  induction n with
  | zero => intro c i all seen h1 h2 h3; omega
  | succ n ih =>
    intro c i all seen h1 h2 h3 h4 h5
    have fin : c = 0 → wX_pull_79 post (nI x) (nI all) (nI seen) (nI m) (oe_f us) (oe_f nm) (oe_f fd) (oe_f ab) (oe_f ch) (oe_f nx) (oe_f bf) (oe_f sA) (oe_f rA) := by
      intro e
      rw [e, oe_rt0] at h4 h5
      have e1 : all = vs := by omega
      have e2 : seen = vr := by
        by_cases g : fd x = 0
        · rw [if_pos g] at h5
          omega
        · rw [if_neg g] at h5
          omega
      rw [e1, e2]
      exact hp
    by_cases e : c = 0
    · exact pk_le 40 i (fun _ => fin e) (fun _ => pk_eq c 0 (fun _ => fin e) (fun z => absurd e z))
    · obtain ⟨d1, d2, d3, d4⟩ := h2 e
      have k := hb c d1
      have i40 : i < 40 := by omega
      have c40 : c ≤ 40 := k.1
      obtain ⟨o1, o2⟩ := R c d1 d2 d3
      rw [oe_one1 e] at o1 o2
      have q1 := oe_rt_z T' d1 d2
      have q2 := oe_rt_eq fd T' d1 d2
      have nxt : nx c ≠ 0 → D (nx c) ∧ nx c ≠ r ∧ ab (nx c) = x ∧ i + 1 + 1 ≤ pl (nx c) := fun e2 => by
        obtain ⟨g1, g2, g3, g4⟩ := hn c d1 d2 e2
        refine ⟨g1, fun z => ?_, by rw [g2, d3], by omega⟩
        have := congrArg pl z
        omega
      have s1 : all + sA c + oe_rt oe_z ch nx (nx c) = vs := by omega
      refine pk_le 40 i (fun z => absurd z (by omega)) (fun _ => pk_eq c 0 (fun z => absurd z e) (fun _ => ⟨pk_in c 41 (by omega), nm_r (oe_fa c40) ⟨pk_in x 41 (by omega), pk_eq (fd x) 0 (fun z => ?_) (fun z => ?_) (hx := oe_fc x40)⟩⟩))
      · rw [if_pos z] at h5
        refine ⟨pk_in c 41 (by omega), nm_r (oe_fa c40) ⟨pk_in c 41 (by omega), nm_r (oe_fc c40) (nm_r (nI_1 i) (ih (nx c) (i + 1) (all + sA c) (seen + rA c) (by omega) nxt (by omega) s1 ?_))⟩⟩
        rw [if_pos z]
        omega
      · rw [if_neg z] at h5
        refine ⟨pk_in c 41 (by omega), nm_r (oe_fc c40) (nm_r (nI_1 i) (ih (nx c) (i + 1) (all + sA c) seen (by omega) nxt (by omega) s1 ?_))⟩
        rw [if_neg z]
        omega
theorem oe_pull (T : oe_T D r N ab ch nx bf pl sz) {x : Nat} (hx : D x) (f1 : fd x ≤ 1)
    (R : ∀ c, D c → c ≠ r → ab c = x → oe_ok fd ch nx sA rA c) {post : St1 → Prop}
    (hp : post (oe_s m us nm fd ab ch nx bf (oe_u sA x (oe_one x + oe_rt oe_z ch nx (ch x))) (oe_u rA x (oe_one x + (if fd x = 0 then oe_rt fd ch nx (ch x) else 0))))) :
    wpX_pull post (oe_s m us nm fd ab ch nx bf sA rA) (nI x) := by
  have x40 := (T.2.1 x hx).1
  have nine : ∀ o, o = oe_one x → wX_pull_9 post (nI x) (nI o) (nI m) (oe_f us) (oe_f nm) (oe_f fd) (oe_f ab) (oe_f ch) (oe_f nx) (oe_f bf) (oe_f sA) (oe_f rA) := by
    intro o ho
    subst ho
    refine And.intro (pk_in x 41 (by omega)) (nm_r (oe_fc x40) ⟨41, ?_⟩)
    refine oe_pull23 T hx f1 R (vs := oe_one x + oe_rt oe_z ch nx (ch x)) (vr := oe_one x + (if fd x = 0 then oe_rt fd ch nx (ch x) else 0)) ?_ 41 (ch x) 0 _ _ (by omega) ?_ (by omega) rfl rfl
    · exact And.intro (pk_in x 41 (by omega)) (nm_r (oe_fu x40) ⟨pk_in x 41 (by omega), nm_r (oe_fu x40) hp⟩)
    · intro e
      obtain ⟨d1, d2, d3, d4⟩ := T.2.2.2.1 x hx e
      refine ⟨d1, fun z => ?_, d2, by omega⟩
      have := congrArg pl z
      have := T.1.2.1
      omega
  exact pk_eq x 0 (fun z => nine 0 (by rw [z]; rfl)) (fun z => nine 1 (oe_one1 z).symm)
end
section
variable {D : Nat → Prop} {N : Nat} {ab ch nx bf pl sz : Nat → Nat} {m : Nat} {us nm fd sA rA : Nat → Nat}
theorem oe_pullUp4 (T : oe_T D 0 N ab ch nx bf pl sz) (f1 : ∀ y, fd y ≤ 1) : ∀ n at' i (sA rA : Nat → Nat), D at' → pl at' ≤ n → i + pl at' ≤ 40 → (∀ y, D y → (pl at' < pl y ∨ pl y + sz y ≤ pl at') → oe_ok fd ch nx sA rA y) →
    ∃ sB rB : Nat → Nat, (∀ y, D y → oe_ok fd ch nx sB rB y) ∧ (∀ y, ¬ D y → sB y = sA y ∧ rB y = rA y) ∧ ∀ post : St1 → Prop, post (oe_s m us nm fd ab ch nx bf sB rB) → wX_pullUp_4 post (n + 1) (nI at') (nI i) (nI m) (oe_f us) (oe_f nm) (oe_f fd) (oe_f ab) (oe_f ch) (oe_f nx) (oe_f bf) (oe_f sA) (oe_f rA) := by
  have T' := T
  obtain ⟨⟨hr, hr0, hrN⟩, hb, hc0, hc, ha, hn0, hn, hb0, hbf, hinj, hsur⟩ := T
  have root : ∀ n i (sA rA : Nat → Nat), i ≤ 40 → (∀ y, D y → (pl 0 < pl y ∨ pl y + sz y ≤ pl 0) → oe_ok fd ch nx sA rA y) →
      ∃ sB rB : Nat → Nat, (∀ y, D y → oe_ok fd ch nx sB rB y) ∧ (∀ y, ¬ D y → sB y = sA y ∧ rB y = rA y) ∧ ∀ post : St1 → Prop, post (oe_s m us nm fd ab ch nx bf sB rB) → wX_pullUp_4 post (n + 1) (nI 0) (nI i) (nI m) (oe_f us) (oe_f nm) (oe_f fd) (oe_f ab) (oe_f ch) (oe_f nx) (oe_f bf) (oe_f sA) (oe_f rA) := by
    intro n i sA rA hi R
    refine ⟨oe_u sA 0 (oe_one 0 + oe_rt oe_z ch nx (ch 0)), oe_u rA 0 (oe_one 0 + (if fd 0 = 0 then oe_rt fd ch nx (ch 0) else 0)), ?_, ?_, ?_⟩
    · intro y hy
      by_cases e : y = 0
      · rw [e]
        exact ⟨oe_us _ _ _, oe_us _ _ _⟩
      · have p1 := oe_pl1 T' hy e
        have o := R y hy (Or.inl (by omega))
        exact ⟨by rw [oe_un e]; exact o.1, by rw [oe_un e]; exact o.2⟩
    · intro y hy
      have e : y ≠ 0 := fun e => hy (by rw [e]; exact hr)
      exact ⟨oe_un e, oe_un e⟩
    · intro post hp
      have last : wX_pullUp_32 post (nI m) (oe_f us) (oe_f nm) (oe_f fd) (oe_f ab) (oe_f ch) (oe_f nx) (oe_f bf) (oe_f sA) (oe_f rA) := by
        refine oe_pull T' (x := 0) hr (f1 0) (fun c h1 h2 h3 => R c h1 (Or.inl ?_)) (post := fun u => match u with | (f0_made_3, am341_6, am342_9, am343_12, am344_15, am345_18, am346_21, am347_24, am348_27, am349_30) => (post (f0_made_3, am341_6, am342_9, am343_12, am344_15, am345_18, am346_21, am347_24, am348_27, am349_30))) hp
        have := oe_pl1 T' h1 h2
        omega
      exact pk_le 40 i (fun _ => last) (fun _ => pk_eq 0 0 (fun _ => last) (fun z => absurd rfl z))
  intro n
  induction n with
  | zero =>
    intro at' i sA rA h1 h2 h3 R
    have e := oe_pl0 T' h1 (by omega)
    subst e
    exact root 0 i sA rA (by omega) R
  | succ n ih =>
    intro at' i sA rA h1 h2 h3 R
    by_cases e : at' = 0
    · subst e
      exact root (n + 1) i sA rA (by omega) R
    · have p1 := oe_pl1 T' h1 e
      obtain ⟨_, d2, d3, d4⟩ := ha at' h1 e
      have k := hb at' h1
      have R2 : ∀ y, D y → (pl (ab at') < pl y ∨ pl y + sz y ≤ pl (ab at')) → oe_ok fd ch nx (oe_u sA at' (oe_one at' + oe_rt oe_z ch nx (ch at'))) (oe_u rA at' (oe_one at' + (if fd at' = 0 then oe_rt fd ch nx (ch at') else 0))) y := by
        intro y hy g
        by_cases e2 : y = at'
        · rw [e2]
          exact ⟨oe_us _ _ _, oe_us _ _ _⟩
        · have o := R y hy (by
            refine Classical.byContradiction fun hne => ?_
            have e3 : pl y ≠ pl at' := fun z => e2 (hinj y at' hy h1 z)
            have l := oe_lam' T' hy h1 (by omega) (by omega)
            omega)
          exact ⟨by rw [oe_un e2]; exact o.1, by rw [oe_un e2]; exact o.2⟩
      obtain ⟨sB, rB, g1, g2, g3⟩ := ih (ab at') (i + 1) _ _ d2 (by omega) (by omega) R2
      refine ⟨sB, rB, g1, fun y hy => ?_, fun post hp => ?_⟩
      · have e2 : y ≠ at' := fun z => hy (by rw [z]; exact h1)
        have q := g2 y hy
        rw [oe_un e2, oe_un e2] at q
        exact q
      · refine pk_le 40 i (fun z => absurd z (by omega)) (fun _ => pk_eq at' 0 (fun z => absurd z e) (fun _ => oe_pull T' h1 (f1 at') (fun c q1 q2 q3 => R c q1 (Or.inl ?_)) ?_))
        · have q4 := (ha c q1 q2).2.2.1
          rw [q3] at q4
          exact q4
        · exact ⟨pk_in at' 41 (by omega), nm_r (oe_fc (by omega)) (nm_r (nI_1 i) (g3 post hp))⟩
theorem oe_pullUp (T : oe_T D 0 N ab ch nx bf pl sz) (f1 : ∀ y, fd y ≤ 1) {p : Nat} (hp : D p) (R : ∀ y, D y → (pl p < pl y ∨ pl y + sz y ≤ pl p) → oe_ok fd ch nx sA rA y) :
    ∃ sB rB : Nat → Nat, (∀ y, D y → oe_ok fd ch nx sB rB y) ∧ (∀ y, ¬ D y → sB y = sA y ∧ rB y = rA y) ∧ ∀ post : St1 → Prop, post (oe_s m us nm fd ab ch nx bf sB rB) → wpX_pullUp post (oe_s m us nm fd ab ch nx bf sA rA) (nI p) := by
  have hN := oe_N T
  have k := T.2.1 p hp
  obtain ⟨sB, rB, g1, g2, g3⟩ := oe_pullUp4 (m := m) (us := us) (nm := nm) T f1 (pl p) p 0 sA rA hp (Nat.le_refl _) (by omega) R
  exact ⟨sB, rB, g1, g2, fun post h => ⟨_, g3 post h⟩⟩
end
end
section
/-- right numbers stay right where nothing below is changed -/
theorem oe_ok_same {fd ch nx sA rA fd' ch' nx' sA' rA' : Nat → Nat} {y : Nat} (o : oe_ok fd ch nx sA rA y) (hf : fd' y = fd y) (hc : ch' y = ch y) (h1 : sA' y = sA y) (h2 : rA' y = rA y)
    (G : Nat → Prop) (h : ∀ c, G c → c ≠ 0 → fd' c = fd c ∧ ch' c = ch c ∧ nx' c = nx c ∧ (ch c ≠ 0 → G (ch c)) ∧ (nx c ≠ 0 → G (nx c))) (hG : ch y ≠ 0 → G (ch y)) : oe_ok fd' ch' nx' sA' rA' y := by
  have e1 : oe_rt oe_z ch' nx' (ch y) = oe_rt oe_z ch nx (ch y) := oe_rt_same G (fun c g c0 => ⟨rfl, (h c g c0).2.1, (h c g c0).2.2.1, fun _ => (h c g c0).2.2.2.1, (h c g c0).2.2.2.2⟩) (ch y) hG
  have e2 : oe_rt fd' ch' nx' (ch y) = oe_rt fd ch nx (ch y) := oe_rt_same G (fun c g c0 => ⟨(h c g c0).1, (h c g c0).2.1, (h c g c0).2.2.1, fun _ => (h c g c0).2.2.2.1, (h c g c0).2.2.2.2⟩) (ch y) hG
  unfold oe_ok
  rw [hf, hc, h1, h2, e1, e2]
  exact o
/-- the pointers behind an unlink -/
def oe_cc (ab ch nx bf : Nat → Nat) (x : Nat) : Nat → Nat := if bf x = 0 then oe_u ch (ab x) (nx x) else ch
def oe_cn (nx bf : Nat → Nat) (x : Nat) : Nat → Nat := if bf x = 0 then nx else oe_u nx (bf x) (nx x)
def oe_cb (nx bf : Nat → Nat) (x : Nat) : Nat → Nat := if nx x = 0 then bf else oe_u bf (nx x) (bf x)
def oe_cp (pl sz : Nat → Nat) (x : Nat) : Nat → Nat := fun y => if pl y < pl x then pl y else pl y - sz x
def oe_cz (pl sz : Nat → Nat) (x : Nat) : Nat → Nat := fun y => if pl y < pl x ∧ pl x + sz x ≤ pl y + sz y then sz y - sz x else sz y
abbrev oe_cd (D : Nat → Prop) (pl sz : Nat → Nat) (x : Nat) : Nat → Prop := fun y => D y ∧ (pl y < pl x ∨ pl x + sz x ≤ pl y)
abbrev oe_ce (D : Nat → Prop) (pl sz : Nat → Nat) (x : Nat) : Nat → Prop := fun y => D y ∧ pl x ≤ pl y ∧ pl y < pl x + sz x
section
variable {ab ch nx bf : Nat → Nat} {x : Nat}
theorem oe_cc1 (h : bf x = 0) : oe_cc ab ch nx bf x (ab x) = nx x := by
  unfold oe_cc
  rw [if_pos h, oe_us]
theorem oe_cc2 {y : Nat} (h : y ≠ ab x ∨ bf x ≠ 0) : oe_cc ab ch nx bf x y = ch y := by
  unfold oe_cc
  by_cases e : bf x = 0
  · rw [if_pos e, oe_un (by omega)]
  · rw [if_neg e]
theorem oe_cn1 (h : bf x ≠ 0) : oe_cn nx bf x (bf x) = nx x := by
  unfold oe_cn
  rw [if_neg h, oe_us]
theorem oe_cn2 {y : Nat} (h : y ≠ bf x) : oe_cn nx bf x y = nx y := by
  unfold oe_cn
  by_cases e : bf x = 0
  · rw [if_pos e]
  · rw [if_neg e, oe_un h]
theorem oe_cb1 (h : nx x ≠ 0) : oe_cb nx bf x (nx x) = bf x := by
  unfold oe_cb
  rw [if_neg h, oe_us]
theorem oe_cb2 {y : Nat} (h : y ≠ nx x) : oe_cb nx bf x y = bf y := by
  unfold oe_cb
  by_cases e : nx x = 0
  · rw [if_pos e]
  · rw [if_neg e, oe_un h]
end
section
variable {D : Nat → Prop} {N : Nat} {ab ch nx bf pl sz : Nat → Nat} {m : Nat} {us nm fd sA rA : Nat → Nat} {x : Nat}
theorem oe_cutT (T : oe_T D 0 N ab ch nx bf pl sz) (hx : D x) (x0 : x ≠ 0) : oe_T (oe_cd D pl sz x) 0 (N - sz x) ab (oe_cc ab ch nx bf x) (oe_cn nx bf x) (oe_cb nx bf x) (oe_cp pl sz x) (oe_cz pl sz x) := by
  have k := T.2.1 x hx
  refine oe_cut T hx x0 oe_cc1 (fun y => oe_cc2) oe_cn1 (fun y => oe_cn2) oe_cb1 (fun y => oe_cb2) ?_ ?_ ?_ ?_
  · intro y h
    exact if_pos h
  · intro y h
    unfold oe_cp
    rw [if_neg (by omega)]
    omega
  · intro y h h2
    unfold oe_cz
    rw [if_pos ⟨h, h2⟩]
    omega
  · intro y h
    unfold oe_cz
    by_cases e : pl y < pl x
    · have := h e
      rw [if_neg (by omega)]
    · rw [if_neg (by omega)]
theorem oe_subT (T : oe_T D 0 N ab ch nx bf pl sz) (hx : D x) (x0 : x ≠ 0) : oe_T (oe_ce D pl sz x) x (sz x) ab (oe_cc ab ch nx bf x) (oe_cn nx bf x) (oe_cb nx bf x) (fun y => pl y - pl x) sz :=
  oe_sub T hx x0 (fun y => oe_cc2) (fun y => oe_cn2) (fun y => oe_cb2) (fun y h => by omega)
/-- what stays right in the rest and in the branch when x is cut off -/
theorem oe_cutOk (T : oe_T D 0 N ab ch nx bf pl sz) (hx : D x) (x0 : x ≠ 0) (O : ∀ y, D y → oe_ok fd ch nx sA rA y) :
    (∀ y, oe_cd D pl sz x y → (oe_cp pl sz x (ab x) < oe_cp pl sz x y ∨ oe_cp pl sz x y + oe_cz pl sz x y ≤ oe_cp pl sz x (ab x)) → oe_ok fd (oe_cc ab ch nx bf x) (oe_cn nx bf x) sA rA y) ∧
    (∀ y, oe_ce D pl sz x y → oe_ok fd (oe_cc ab ch nx bf x) (oe_cn nx bf x) sA rA y) := by
  have C := oe_cutT T hx x0
  have S := oe_subT T hx x0
  have T' := T
  obtain ⟨⟨hr, hr0, hrN⟩, hb, hc0, hc, ha, hn0, hn, hb0, hbf, hinj, hsur⟩ := T
  obtain ⟨_, hp, hpl, hpe⟩ := ha x hx x0
  have hbx := hb x hx
  have XF : bf x ≠ 0 → ab (bf x) = ab x := fun e => by
    obtain ⟨h1, h2, h3⟩ := hbf x hx x0 e
    obtain ⟨g1, g2, g3, g4⟩ := hn (bf x) h1 h2 (by rw [h3]; exact x0)
    rw [h3] at g2
    exact g2.symm
  constructor
  · intro y hy g
    have pp : oe_cp pl sz x (ab x) = pl (ab x) := if_pos hpl
    have na : pl (ab x) < pl y ∨ pl y + sz y ≤ pl (ab x) := by
      rw [pp] at g
      unfold oe_cp oe_cz at g
      have h := hy.2
      have k := hb y hy.1
      by_cases q : pl y < pl x
      · rw [if_pos q] at g
        by_cases q2 : pl x + sz x ≤ pl y + sz y
        · rw [if_pos ⟨q, q2⟩] at g
          omega
        · rw [if_neg (by omega)] at g
          exact g
      · omega
    have cy : ∀ y, D y → (pl (ab x) < pl y ∨ pl y + sz y ≤ pl (ab x)) → y ≠ ab x := fun y hy h e => by
      have := hb y hy
      rw [e] at h
      have := hb (ab x) hp
      omega
    refine oe_ok_same (O y hy.1) rfl (oe_cc2 (Or.inl (cy y hy.1 na))) rfl rfl (fun c => oe_cd D pl sz x c ∧ c ≠ 0 ∧ (pl (ab x) < pl (ab c) ∨ pl (ab c) + sz (ab c) ≤ pl (ab x))) ?_ ?_
    · rintro c ⟨q1, q2, q3⟩ _
      obtain ⟨_, d2, d3, d4⟩ := ha c q1.1 q2
      have nac : pl (ab x) < pl c ∨ pl c + sz c ≤ pl (ab x) := by omega
      have e1 : oe_cc ab ch nx bf x c = ch c := oe_cc2 (Or.inl (cy c q1.1 nac))
      have e2 : oe_cn nx bf x c = nx c := oe_cn2 (fun e => by
        have e3 := XF (by rw [← e]; exact q2)
        rw [← e] at e3
        exact cy _ d2 q3 e3)
      refine ⟨rfl, e1, e2, fun h => ?_, fun h => ?_⟩
      · have w := (C.2.2.2.1 c q1 (by rw [e1]; exact h))
        rw [e1] at w
        exact ⟨w.1, h, by rw [w.2.1]; exact nac⟩
      · have w := (C.2.2.2.2.2.2.1 c q1 q2 (by rw [e2]; exact h))
        rw [e2] at w
        exact ⟨w.1, h, by rw [w.2.1]; exact q3⟩
    · intro h
      have e1 : oe_cc ab ch nx bf x y = ch y := oe_cc2 (Or.inl (cy y hy.1 na))
      have w := (C.2.2.2.1 y hy (by rw [e1]; exact h))
      rw [e1] at w
      exact ⟨w.1, h, by rw [w.2.1]; exact na⟩
  · intro y hy
    have cy : ∀ y, oe_ce D pl sz x y → oe_cc ab ch nx bf x y = ch y := fun y hy => oe_cc2 (Or.inl (fun e => by
      have := congrArg pl e
      have := hy.2.1
      omega))
    have nz : ∀ y, oe_ce D pl sz x y → y ≠ 0 := fun y hy e => by
      have := congrArg pl e
      have := hy.2.1
      omega
    have cn : ∀ y, oe_ce D pl sz x y → oe_cn nx bf x y = nx y := fun y hy => oe_cn2 (fun e => by
      have b0 : bf x ≠ 0 := by rw [← e]; exact nz y hy
      obtain ⟨h1, h2, h3⟩ := hbf x hx x0 b0
      have h4 := (hn (bf x) h1 h2 (by rw [h3]; exact x0)).2.2.2
      rw [h3, ← e] at h4
      have := hb y hy.1
      have := hy.2.1
      omega)
    refine oe_ok_same (O y hy.1) rfl (cy y hy) rfl rfl (fun c => oe_ce D pl sz x c ∧ c ≠ x) ?_ ?_
    · rintro c ⟨q1, q2⟩ _
      have e1 := cy c q1
      have e2 := cn c q1
      refine ⟨rfl, e1, e2, fun h => ?_, fun h => ?_⟩
      · have w := (S.2.2.2.1 c q1 (by rw [e1]; exact h))
        rw [e1] at w
        refine ⟨w.1, fun e => ?_⟩
        have := (hc c q1.1 h).2.2.2
        rw [e] at this
        have := q1.2.1
        omega
      · have w := (S.2.2.2.2.2.2.1 c q1 q2 (by rw [e2]; exact h))
        rw [e2] at w
        refine ⟨w.1, fun e => ?_⟩
        have := (hn c q1.1 (nz c q1) h).2.2.2
        rw [e] at this
        have := q1.2.1
        have := hb c q1.1
        omega
    · intro h
      have e1 := cy y hy
      have w := (S.2.2.2.1 y hy (by rw [e1]; exact h))
      rw [e1] at w
      refine ⟨w.1, fun e => ?_⟩
      have := (hc y hy.1 h).2.2.2
      rw [e] at this
      have := hy.2.1
      omega
theorem oe_unlink (T : oe_T D 0 N ab ch nx bf pl sz) (hx : D x) (x0 : x ≠ 0) (f1 : ∀ y, fd y ≤ 1) (O : ∀ y, D y → oe_ok fd ch nx sA rA y) :
    ∃ sB rB : Nat → Nat, (∀ y, D y → oe_ok fd (oe_cc ab ch nx bf x) (oe_cn nx bf x) sB rB y) ∧ (∀ y, ¬ D y → sB y = sA y ∧ rB y = rA y) ∧
      ∀ post : St1 → Prop, post (oe_s m us nm fd ab (oe_cc ab ch nx bf x) (oe_cn nx bf x) (oe_cb nx bf x) sB rB) → wpX_unlink post (oe_s m us nm fd ab ch nx bf sA rA) (nI x) := by
  have C := oe_cutT T hx x0
  obtain ⟨O1, O2⟩ := oe_cutOk T hx x0 O
  have T' := T
  obtain ⟨⟨hr, hr0, hrN⟩, hb, hc0, hc, ha, hn0, hn, hb0, hbf, hinj, hsur⟩ := T
  obtain ⟨_, hp, hpl, hpe⟩ := ha x hx x0
  obtain ⟨sB, rB, g1, g2, g3⟩ := oe_pullUp (m := m) (us := us) (nm := nm) C f1 (p := ab x) ⟨hp, Or.inl hpl⟩ O1
  have x40 := (hb x hx).1
  have p40 := (hb _ hp).1
  have b40 : bf x ≤ 40 := by
    by_cases e : bf x = 0
    · omega
    · exact (hb _ (hbf x hx x0 e).1).1
  have n40 : nx x ≤ 40 := by
    by_cases e : nx x = 0
    · omega
    · exact (hb _ (hn x hx x0 e).1).1
  refine ⟨sB, rB, fun y hy => ?_, fun y hy => g2 y (fun h => hy h.1), fun post h => ?_⟩
  · by_cases q : pl y < pl x ∨ pl x + sz x ≤ pl y
    · exact g1 y ⟨hy, q⟩
    · have o := O2 y ⟨hy, by omega, by omega⟩
      have e := g2 y (fun h => q h.2)
      exact ⟨by rw [e.1]; exact o.1, by rw [e.2]; exact o.2⟩
  · have last : ∀ ch1 nx1 : Nat → Nat, ch1 = oe_cc ab ch nx bf x → nx1 = oe_cn nx bf x → nx1 x = nx x → wX_unlink_48 post (nI x) (nI (ab x)) (nI m) (oe_f us) (oe_f nm) (oe_f fd) (oe_f ab) (oe_f ch1) (oe_f nx1) (oe_f bf) (oe_f sA) (oe_f rA) := by
      intro ch1 nx1 e1 e2 e3
      have fin : ∀ bf1, bf1 = oe_cb nx bf x → wX_unlink_74 post (nI (ab x)) (nI m) (oe_f us) (oe_f nm) (oe_f fd) (oe_f ab) (oe_f ch1) (oe_f nx1) (oe_f bf1) (oe_f sA) (oe_f rA) := by
        intro bf1 e4
        rw [e1, e2, e4]
        exact g3 _ h
      refine And.intro (pk_in x 41 (by omega)) (pk_eq (nx x) 0 (fun z => fin bf (by unfold oe_cb; rw [if_pos z])) (fun z => ⟨pk_in x 41 (by omega), pk_in x 41 (by omega), pk_in (nx x) 41 (by omega) (by rw [oe_fc x40, e3]), nm_r (e' := oe_f (oe_u bf (nx x) (bf x))) (by rw [oe_fc x40, oe_fc x40, e3, oe_fu n40]) (fin _ (by unfold oe_cb; rw [if_neg z]))⟩) (by rw [oe_fc x40, e3]))
    refine And.intro (pk_in x 41 (by omega)) (nm_r (oe_fc x40) ⟨pk_in x 41 (by omega), pk_eq (bf x) 0 (fun z => ⟨pk_in x 41 (by omega), pk_in (ab x) 41 (by omega), nm_r (e' := oe_f (oe_u ch (ab x) (nx x))) (by rw [oe_fc x40, oe_fu p40]) (last _ _ (by unfold oe_cc; rw [if_pos z]) (by unfold oe_cn; rw [if_pos z]) rfl)⟩) (fun z => ⟨pk_in x 41 (by omega), pk_in x 41 (by omega), pk_in (bf x) 41 (by omega) (oe_fc x40), nm_r (e' := oe_f (oe_u nx (bf x) (nx x))) (by rw [oe_fc x40, oe_fc x40, oe_fu b40]) (last _ _ (by unfold oe_cc; rw [if_neg z]) (by unfold oe_cn; rw [if_neg z]) ?_)⟩) (oe_fc x40)⟩)
    refine oe_un (fun e => ?_)
    obtain ⟨h1, h2, h3⟩ := hbf x hx x0 z
    have h4 := (hn (bf x) h1 h2 (by rw [h3]; exact x0)).2.2.2
    rw [h3, ← e] at h4
    have := hb x hx
    omega
end
end
section
/-- the pointers behind a link -/
def oe_lt (ch nx : Nat → Nat) (p s : Nat) : Nat := if s = 0 then ch p else nx s
def oe_la (pl sz : Nat → Nat) (p s : Nat) : Nat := if s = 0 then pl p + 1 else pl s + sz s
def oe_lb (bf : Nat → Nat) (x s t : Nat) : Nat → Nat := if t = 0 then oe_u bf x s else oe_u (oe_u bf x s) t x
def oe_ln (nx : Nat → Nat) (x s t : Nat) : Nat → Nat := if s = 0 then oe_u nx x t else oe_u (oe_u nx x t) s x
def oe_lc (ch : Nat → Nat) (x p s : Nat) : Nat → Nat := if s = 0 then oe_u ch p x else ch
section
variable {ab ch nx bf : Nat → Nat} {x p s t : Nat}
theorem oe_lb1 (h : t = 0 ∨ x ≠ t) : oe_lb bf x s t x = s := by
  unfold oe_lb
  by_cases e : t = 0
  · rw [if_pos e, oe_us]
  · rw [if_neg e, oe_un (by omega), oe_us]
theorem oe_lb2 (h : t ≠ 0) : oe_lb bf x s t t = x := by
  unfold oe_lb
  rw [if_neg h, oe_us]
theorem oe_lb3 {y : Nat} (h : y ≠ x) (h2 : y ≠ t) : oe_lb bf x s t y = bf y := by
  unfold oe_lb
  by_cases e : t = 0
  · rw [if_pos e, oe_un h]
  · rw [if_neg e, oe_un h2, oe_un h]
theorem oe_ln1 (h : s = 0 ∨ x ≠ s) : oe_ln nx x s t x = t := by
  unfold oe_ln
  by_cases e : s = 0
  · rw [if_pos e, oe_us]
  · rw [if_neg e, oe_un (by omega), oe_us]
theorem oe_ln2 (h : s ≠ 0) : oe_ln nx x s t s = x := by
  unfold oe_ln
  rw [if_neg h, oe_us]
theorem oe_ln3 {y : Nat} (h : y ≠ x) (h2 : y ≠ s) : oe_ln nx x s t y = nx y := by
  unfold oe_ln
  by_cases e : s = 0
  · rw [if_pos e, oe_un h]
  · rw [if_neg e, oe_un h2, oe_un h]
theorem oe_lc1 (h : s = 0) : oe_lc ch x p s p = x := by
  unfold oe_lc
  rw [if_pos h, oe_us]
theorem oe_lc2 {y : Nat} (h : y ≠ p ∨ s ≠ 0) : oe_lc ch x p s y = ch y := by
  unfold oe_lc
  by_cases e : s = 0
  · rw [if_pos e, oe_un (by omega)]
  · rw [if_neg e]
end
section
variable {D E : Nat → Prop} {N k x p s : Nat} {ab ch nx bf pl sz pm sm : Nat → Nat} {m : Nat} {us nm fd sA rA : Nat → Nat}
theorem oe_ltD (T : oe_T D 0 N ab ch nx bf pl sz) (hp : D p) (hs : s ≠ 0 → D s ∧ ab s = p) (h : oe_lt ch nx p s ≠ 0) : D (oe_lt ch nx p s) := by
  unfold oe_lt at h ⊢
  by_cases e : s = 0
  · rw [if_pos e] at h ⊢
    exact (T.2.2.2.1 p hp h).1
  · rw [if_neg e] at h ⊢
    exact (T.2.2.2.2.2.2.1 s (hs e).1 e h).1
theorem oe_putT (T : oe_T D 0 N ab ch nx bf pl sz) (S : oe_T E x k ab ch nx bf pm sm) (dj : ∀ y, D y → E y → False) (hp : D p) (hs : s ≠ 0 → D s ∧ ab s = p) :
    ∃ pl' sz' : Nat → Nat, oe_T (fun y => D y ∨ E y) 0 (N + k) (oe_u ab x p) (oe_lc ch x p s) (oe_ln nx x s (oe_lt ch nx p s)) (oe_lb bf x s (oe_lt ch nx p s)) pl' sz' ∧
      (∀ y, E y → pl' y = oe_la pl sz p s + pm y) ∧ (∀ y, D y → pl y < oe_la pl sz p s → pl' y = pl y) ∧ (∀ y, D y → oe_la pl sz p s ≤ pl y → pl' y = pl y + k) ∧
      (∀ y, E y → sz' y = sm y) ∧ (∀ y, D y → pl y ≤ pl p → pl p < pl y + sz y → sz' y = sz y + k) ∧ (∀ y, D y → (pl p < pl y ∨ pl y + sz y ≤ pl p) → sz' y = sz y) := by
  classical
  have xt : oe_lt ch nx p s = 0 ∨ x ≠ oe_lt ch nx p s := by
    by_cases e : oe_lt ch nx p s = 0
    · exact Or.inl e
    · exact Or.inr (fun z => dj x (by rw [z]; exact oe_ltD T hp hs e) S.1.1)
  have xs : s = 0 ∨ x ≠ s := by
    by_cases e : s = 0
    · exact Or.inl e
    · exact Or.inr (fun z => dj x (by rw [z]; exact (hs e).1) S.1.1)
  have Q1 : ∀ y, E y → (if E y then oe_la pl sz p s + pm y else if pl y < oe_la pl sz p s then pl y else pl y + k) = oe_la pl sz p s + pm y := fun y hy => if_pos hy
  have Q2 : ∀ y, D y → pl y < oe_la pl sz p s → (if E y then oe_la pl sz p s + pm y else if pl y < oe_la pl sz p s then pl y else pl y + k) = pl y := fun y hy h => by
    rw [if_neg (fun z => dj y hy z), if_pos h]
  have Q3 : ∀ y, D y → oe_la pl sz p s ≤ pl y → (if E y then oe_la pl sz p s + pm y else if pl y < oe_la pl sz p s then pl y else pl y + k) = pl y + k := fun y hy h => by
    rw [if_neg (fun z => dj y hy z), if_neg (by omega)]
  have Q4 : ∀ y, E y → (if E y then sm y else if pl y ≤ pl p ∧ pl p < pl y + sz y then sz y + k else sz y) = sm y := fun y hy => if_pos hy
  have Q5 : ∀ y, D y → pl y ≤ pl p → pl p < pl y + sz y → (if E y then sm y else if pl y ≤ pl p ∧ pl p < pl y + sz y then sz y + k else sz y) = sz y + k := fun y hy h h2 => by
    rw [if_neg (fun z => dj y hy z), if_pos ⟨h, h2⟩]
  have Q6 : ∀ y, D y → (pl p < pl y ∨ pl y + sz y ≤ pl p) → (if E y then sm y else if pl y ≤ pl p ∧ pl p < pl y + sz y then sz y + k else sz y) = sz y := fun y hy h => by
    rw [if_neg (fun z => dj y hy z), if_neg (by omega)]
  refine ⟨fun y => if E y then oe_la pl sz p s + pm y else if pl y < oe_la pl sz p s then pl y else pl y + k, fun y => if E y then sm y else if pl y ≤ pl p ∧ pl p < pl y + sz y then sz y + k else sz y, ?_, Q1, Q2, Q3, Q4, Q5, Q6⟩
  exact oe_put T S dj hp hs (fun e => if_pos e) (fun e => if_neg e) (fun e => if_pos e) (fun e => if_neg e) (oe_us _ _ _) (fun y h => oe_un h) (oe_lb1 xt) oe_lb2 (fun y h h2 => oe_lb3 h h2) (oe_ln1 xs) oe_ln2 (fun y h h2 => oe_ln3 h h2) oe_lc1 (fun y h => oe_lc2 h) Q1 Q2 Q3 Q4 Q5 Q6
theorem oe_putOk (T : oe_T D 0 N ab ch nx bf pl sz) (S : oe_T E x k ab ch nx bf pm sm) (dj : ∀ y, D y → E y → False) (hp : D p) (hs : s ≠ 0 → D s ∧ ab s = p)
    (O : ∀ y, D y → oe_ok fd ch nx sA rA y) (O2 : ∀ y, E y → oe_ok fd ch nx sA rA y) :
    (∀ y, D y → (pl p < pl y ∨ pl y + sz y ≤ pl p) → oe_ok fd (oe_lc ch x p s) (oe_ln nx x s (oe_lt ch nx p s)) sA rA y) ∧ (∀ y, E y → oe_ok fd (oe_lc ch x p s) (oe_ln nx x s (oe_lt ch nx p s)) sA rA y) := by
  obtain ⟨⟨hr, hr0, hrN⟩, hb, hc0, hc, ha, hn0, hn, hb0, hbf, hinj, hsur⟩ := T
  have hbp := hb p hp
  have np : ∀ y, D y → (pl p < pl y ∨ pl y + sz y ≤ pl p) → y ≠ p := fun y hy h e => by
    rw [e] at h
    omega
  have xD : ∀ y, D y → y ≠ x := fun y hy e => dj x (by rw [← e]; exact hy) S.1.1
  constructor
  · intro y hy na
    refine oe_ok_same (O y hy) rfl (oe_lc2 (Or.inl (np y hy na))) rfl rfl (fun c => D c ∧ c ≠ 0 ∧ (pl p < pl (ab c) ∨ pl (ab c) + sz (ab c) ≤ pl p)) ?_ ?_
    · rintro c ⟨q1, q2, q3⟩ _
      obtain ⟨_, d2, d3, d4⟩ := ha c q1 q2
      have nac : pl p < pl c ∨ pl c + sz c ≤ pl p := by omega
      refine ⟨rfl, oe_lc2 (Or.inl (np c q1 nac)), oe_ln3 (xD c q1) (fun e => ?_), fun h => ?_, fun h => ?_⟩
      · have e3 := (hs (by rw [← e]; exact q2)).2
        rw [← e] at e3
        exact np _ d2 q3 e3
      · obtain ⟨w1, w2, _⟩ := hc c q1 h
        exact ⟨w1, h, by rw [w2]; exact nac⟩
      · obtain ⟨w1, w2, _⟩ := hn c q1 q2 h
        exact ⟨w1, h, by rw [w2]; exact q3⟩
    · intro h
      obtain ⟨w1, w2, _⟩ := hc y hy h
      exact ⟨w1, h, by rw [w2]; exact na⟩
  · obtain ⟨⟨er, er0, erN⟩, eb, ec0, ec, ea, en0, en, eb0, ebf, einj, esur⟩ := S
    have E0 : ∀ y, E y → y ≠ 0 := fun y hy e => dj y (by rw [e]; exact hr) hy
    have Ep : ∀ y, E y → y ≠ p := fun y hy e => dj y (by rw [e]; exact hp) hy
    have Es : ∀ y, E y → y ≠ s := fun y hy e => dj y (by
      have h0 := E0 y hy
      rw [e] at h0 ⊢
      exact (hs h0).1) hy
    intro y hy
    refine oe_ok_same (O2 y hy) rfl (oe_lc2 (Or.inl (Ep y hy))) rfl rfl (fun c => E c ∧ c ≠ x) ?_ ?_
    · rintro c ⟨q1, q2⟩ _
      refine ⟨rfl, oe_lc2 (Or.inl (Ep c q1)), oe_ln3 q2 (Es c q1), fun h => ?_, fun h => ?_⟩
      · obtain ⟨w1, w2, w3, w4⟩ := ec c q1 h
        refine ⟨w1, fun e => ?_⟩
        rw [e] at w4
        omega
      · obtain ⟨w1, w2, w3, w4⟩ := en c q1 q2 h
        refine ⟨w1, fun e => ?_⟩
        rw [e] at w4
        have := eb c q1
        omega
    · intro h
      obtain ⟨w1, w2, w3, w4⟩ := ec y hy h
      refine ⟨w1, fun e => ?_⟩
      rw [e] at w4
      omega
/-- link: the tree behind it, its numbers, its walk -/
theorem oe_link (T : oe_T D 0 N ab ch nx bf pl sz) (S : oe_T E x k ab ch nx bf pm sm) (dj : ∀ y, D y → E y → False) (hp : D p) (hs : s ≠ 0 → D s ∧ ab s = p) (f1 : ∀ y, fd y ≤ 1)
    (O : ∀ y, D y → oe_ok fd ch nx sA rA y) (O2 : ∀ y, E y → oe_ok fd ch nx sA rA y) :
    ∃ sB rB : Nat → Nat, (∀ y, (D y ∨ E y) → oe_ok fd (oe_lc ch x p s) (oe_ln nx x s (oe_lt ch nx p s)) sB rB y) ∧ (∀ y, ¬ (D y ∨ E y) → sB y = sA y ∧ rB y = rA y) ∧
      ∀ post : St1 → Prop, post (oe_s m us nm fd (oe_u ab x p) (oe_lc ch x p s) (oe_ln nx x s (oe_lt ch nx p s)) (oe_lb bf x s (oe_lt ch nx p s)) sB rB) → wpX_link post (oe_s m us nm fd ab ch nx bf sA rA) (nI x) (nI p) (nI s) := by
  obtain ⟨pl', sz', C, P1, P2, P3, S1, S2, S3⟩ := oe_putT T S dj hp hs
  obtain ⟨O3, O4⟩ := oe_putOk T S dj hp hs O O2
  have hb := T.2.1
  have x40 := (S.2.1 x S.1.1).1
  have p40 := (hb p hp).1
  have s40 : s ≤ 40 := by
    by_cases e : s = 0
    · omega
    · exact (hb s (hs e).1).1
  have t40 : oe_lt ch nx p s ≤ 40 := by
    by_cases e : oe_lt ch nx p s = 0
    · omega
    · exact (hb _ (oe_ltD T hp hs e)).1
  have hbp := hb p hp
  have pa : pl p < oe_la pl sz p s := by
    unfold oe_la
    by_cases e : s = 0
    · rw [if_pos e]
      omega
    · rw [if_neg e]
      have := (T.2.2.2.2.1 s (hs e).1 e).2.2.1
      rw [(hs e).2] at this
      omega
  obtain ⟨sB, rB, g1, g2, g3⟩ := oe_pullUp (m := m) (us := us) (nm := nm) (sA := sA) (rA := rA) C f1 (p := p) (Or.inl hp) (by
    rintro y (hy | hy) g
    · refine O3 y hy (Classical.byContradiction fun hne => ?_)
      rw [P2 p hp pa, P2 y hy (by omega), S2 y hy (by omega) (by omega)] at g
      omega
    · exact O4 y hy)
  refine ⟨sB, rB, g1, g2, fun post h => ?_⟩
  have sx : s ≠ 0 → s ≠ x := fun e z => dj s (hs e).1 (by rw [z]; exact S.1.1)
  have xp : p ≠ x := fun z => dj p hp (by rw [z]; exact S.1.1)
  have fin : ∀ bf1, bf1 = oe_lb bf x s (oe_lt ch nx p s) → ∀ ch1 nx1, ch1 = oe_lc ch x p s → nx1 = oe_ln nx x s (oe_lt ch nx p s) → wX_link_77 post (nI p) (nI m) (oe_f us) (oe_f nm) (oe_f fd) (oe_f (oe_u ab x p)) (oe_f ch1) (oe_f nx1) (oe_f bf1) (oe_f sA) (oe_f rA) := by
    intro bf1 e1 ch1 nx1 e2 e3
    rw [e1, e2, e3]
    exact g3 _ h
  have l64 : ∀ ch1 nx1, ch1 = oe_lc ch x p s → nx1 = oe_ln nx x s (oe_lt ch nx p s) → wX_link_64 post (nI x) (nI p) (nI (oe_lt ch nx p s)) (nI m) (oe_f us) (oe_f nm) (oe_f fd) (oe_f (oe_u ab x p)) (oe_f ch1) (oe_f nx1) (oe_f (oe_u bf x s)) (oe_f sA) (oe_f rA) := by
    intro ch1 nx1 e2 e3
    exact pk_eq (oe_lt ch nx p s) 0 (fun z => fin _ (by unfold oe_lb; rw [if_pos z]) _ _ e2 e3) (fun z => ⟨pk_in (oe_lt ch nx p s) 41 (by omega), nm_r (oe_fu t40) (fin _ (by unfold oe_lb; rw [if_neg z]) _ _ e2 e3)⟩)
  have l33 : wX_link_33 post (nI x) (nI p) (nI s) (nI (oe_lt ch nx p s)) (nI m) (oe_f us) (oe_f nm) (oe_f fd) (oe_f (oe_u ab x p)) (oe_f ch) (oe_f nx) (oe_f (oe_u bf x s)) (oe_f sA) (oe_f rA) := by
    refine And.intro (pk_in x 41 (by omega)) (nm_r (oe_fu x40) (pk_eq s 0 (fun z => ⟨pk_in p 41 (by omega), nm_r (oe_fu p40) (l64 _ _ (by unfold oe_lc; rw [if_pos z]) (by unfold oe_ln; rw [if_pos z]))⟩) (fun z => ⟨pk_in s 41 (by omega), nm_r (oe_fu s40) (l64 _ _ (by unfold oe_lc; rw [if_neg z]) (by unfold oe_ln; rw [if_neg z]))⟩)))
  refine And.intro (pk_in x 41 (by omega)) (nm_r (oe_fu x40) ⟨pk_in x 41 (by omega), nm_r (oe_fu x40) (pk_eq s 0 (fun z => ⟨pk_in p 41 (by omega), ?_⟩) (fun z => ⟨pk_in s 41 (by omega), ?_⟩))⟩)
  · rw [oe_fc p40]
    have e : oe_lt ch nx p s = ch p := if_pos z
    rw [e] at l33
    exact l33
  · rw [oe_fc s40]
    have e : oe_lt ch nx p s = nx s := if_neg z
    rw [e] at l33
    exact l33
end
end
section
section
variable {D : Nat → Prop} {N : Nat} {ab ch nx bf pl sz : Nat → Nat} {m : Nat} {us nm fd sA rA : Nat → Nat}
theorem oe_okS (T : oe_T D 0 N ab ch nx bf pl sz) (O : ∀ y, D y → oe_ok fd ch nx sA rA y) : (∀ y, D y → y ≠ 0 → sA y = sz y) ∧ sA 0 + 1 = N := by
  constructor
  · intro y hy y0
    have o := (O y hy).1
    rw [oe_one1 y0, oe_sz T hy] at o
    exact o
  · have o := (O 0 T.1.1).1
    rw [oe_one0] at o
    have := oe_sz T T.1.1
    have := T.1.2.2
    omega
theorem oe_ch40 (T : oe_T D 0 N ab ch nx bf pl sz) {y : Nat} (hy : D y) : ch y ≤ 40 := by
  by_cases e : ch y = 0
  · omega
  · exact (T.2.1 _ (T.2.2.2.1 y hy e).1).1
theorem oe_bf40 (T : oe_T D 0 N ab ch nx bf pl sz) {y : Nat} (hy : D y) (y0 : y ≠ 0) : bf y ≤ 40 := by
  by_cases e : bf y = 0
  · omega
  · exact (T.2.1 _ (T.2.2.2.2.2.2.2.2.1 y hy y0 e).1).1
theorem oe_nx40 (T : oe_T D 0 N ab ch nx bf pl sz) {y : Nat} (hy : D y) (y0 : y ≠ 0) : nx y ≤ 40 := by
  by_cases e : nx y = 0
  · omega
  · exact (T.2.1 _ (T.2.2.2.2.2.2.1 y hy y0 e).1).1
/-- the brother ahead -/
theorem oe_bfF (T : oe_T D 0 N ab ch nx bf pl sz) {y : Nat} (hy : D y) (y0 : y ≠ 0) (e : bf y ≠ 0) : D (bf y) ∧ nx (bf y) = y ∧ ab (bf y) = ab y ∧ pl y = pl (bf y) + sz (bf y) := by
  obtain ⟨h1, h2, h3⟩ := T.2.2.2.2.2.2.2.2.1 y hy y0 e
  obtain ⟨g1, g2, g3, g4⟩ := T.2.2.2.2.2.2.1 (bf y) h1 h2 (by rw [h3]; exact y0)
  rw [h3] at g2 g4
  exact ⟨h1, h3, g2.symm, g4⟩
theorem oe_bfZ (T : oe_T D 0 N ab ch nx bf pl sz) {y : Nat} (hy : D y) (y0 : y ≠ 0) (e : bf y = 0) : ch (ab y) = y ∧ pl y = pl (ab y) + 1 := by
  have h := T.2.2.2.2.2.2.2.1 y hy y0 e
  have h2 := (T.2.2.2.1 (ab y) (T.2.2.2.2.1 y hy y0).2.1 (by rw [h]; exact y0)).2.2.2
  rw [h] at h2
  exact ⟨h, h2⟩
theorem oe_bad {post : Int32 → Prop} {i : Nat} (hi : i < 2 ^ 31) (hs : sA 0 < 2 ^ 31) (h0 : i < sA 0 → post 0) (h1 : sA 0 ≤ i → post 1) : wpX_bad post (oe_s m us nm fd ab ch nx bf sA rA) (nI i) :=
  br_f (nI_pos hi) (pk_lt i (sA 0) h0 h1)
theorem oe_nodeAt (T : oe_T D 0 N ab ch nx bf pl sz) (Z : ∀ y, D y → y ≠ 0 → sA y = sz y) {y i : Nat} (hy : D y) (h : pl y = i + 1) {post : Int32 → Prop} (hp : post (nI y)) : wpX_nodeAt post (oe_s m us nm fd ab ch nx bf sA rA) (nI i) := by
  have hN := oe_N T
  have T' := T
  obtain ⟨⟨hr, hr0, hrN⟩, hb, hc0, hc, ha, hn0, hn, hb0, hbf, hinj, hsur⟩ := T
  have ky := hb y hy
  have L : ∀ n c rest j, 41 ≤ n + j → D c → c ≠ 0 → pl c + rest = i + 1 → i + 1 < pl (ab c) + sz (ab c) → j + 1 ≤ pl c → wX_nodeAt_12 post (nI m) (oe_f us) (oe_f nm) (oe_f fd) (oe_f ab) (oe_f ch) (oe_f nx) (oe_f bf) (oe_f sA) (oe_f rA) n (nI c) (nI rest) (nI j) := by
    intro n
    induction n with
    | zero =>
      intro c rest j h1 h2 h3 h4 h5 h6
      have := hb c h2
      omega
    | succ n ih =>
      intro c rest j h1 h2 h3 h4 h5 h6
      have k := hb c h2
      have z := Z c h2 h3
      refine pk_le 80 j (fun z => absurd z (by omega)) (fun _ => br_f (nI_pos (by omega)) (pk_eq c 0 (fun z => absurd z h3) (fun _ => pk_eq rest 0 (fun e => ?_) (fun e => ⟨pk_in c 41 (by omega), pk_lt rest (sA c) (fun g => ?_) (fun g => ?_) (hy := oe_fc k.1)⟩))))
      · rw [hinj c y h2 hy (by omega)]
        exact hp
      · have c0 : ch c ≠ 0 := fun e2 => by
          have := hc0 c h2 e2
          omega
        obtain ⟨d1, d2, d3, d4⟩ := hc c h2 c0
        exact nm_r (sb_m1 (by omega)) ⟨pk_in c 41 (by omega), nm_r (oe_fc k.1) (nm_r (nI_1 j) (ih (ch c) (rest - 1) (j + 1) (by omega) d1 c0 (by omega) (by rw [d2]; omega) (by omega)))⟩
      · have c0 : nx c ≠ 0 := fun e2 => by
          have := hn0 c h2 h3 e2
          omega
        obtain ⟨d1, d2, d3, d4⟩ := hn c h2 h3 c0
        exact ⟨pk_in c 41 (by omega), nm_r (e' := nI (rest - sA c)) (by rw [oe_fc k.1, pk_sub g]) ⟨pk_in c 41 (by omega), nm_r (oe_fc k.1) (nm_r (nI_1 j) (ih (nx c) (rest - sA c) (j + 1) (by omega) d1 c0 (by omega) (by rw [d2]; omega) (by omega)))⟩⟩
  have c0 : ch 0 ≠ 0 := fun e => by
    have := hc0 0 hr e
    omega
  obtain ⟨d1, d2, d3, d4⟩ := hc 0 hr c0
  exact nm_e ⟨41, L 41 (ch 0) i 0 (by omega) d1 c0 (by omega) (by rw [d2]; omega) (by omega)⟩
theorem oe_placeOf (T : oe_T D 0 N ab ch nx bf pl sz) (Z : ∀ y, D y → y ≠ 0 → sA y = sz y) {x : Nat} (hx : D x) (x0 : x ≠ 0) {post : Int32 → Prop} (hp : post (nI (pl x - 1))) : wpX_placeOf post (oe_s m us nm fd ab ch nx bf sA rA) (nI x) := by
  have hN := oe_N T
  have T' := T
  obtain ⟨⟨hr, hr0, hrN⟩, hb, hc0, hc, ha, hn0, hn, hb0, hbf, hinj, hsur⟩ := T
  have L : ∀ n at' pc j, pl at' + 1 ≤ n → D at' → (at' ≠ 0 → pc + pl at' = pl x) → (at' = 0 → pc + 1 = pl x) → j + pl at' ≤ 40 → wX_placeOf_7 post (nI m) (oe_f us) (oe_f nm) (oe_f fd) (oe_f ab) (oe_f ch) (oe_f nx) (oe_f bf) (oe_f sA) (oe_f rA) n (nI pc) (nI at') (nI j) := by
    intro n
    induction n with
    | zero => intro at' pc j h1; omega
    | succ n ih =>
      intro at' pc j h1 h2 h3 h4 h5
      have k := hb at' h2
      refine pk_le 80 j (fun z => absurd z (by omega)) (fun _ => pk_eq at' 0 (fun e => ?_) (fun e => ⟨pk_in at' 41 (by omega), pk_eq (bf at') 0 (fun b0 => ?_) (fun b0 => ?_) (hx := oe_fc k.1) (ha := by have := oe_bf40 T' h2 e; omega)⟩))
      · have := h4 e
        rw [show pc = pl x - 1 by omega]
        exact hp
      · have := h3 e
        obtain ⟨_, d2, d3, d4⟩ := ha at' h2 e
        have q := (oe_bfZ T' h2 e b0).2
        have k2 := hb _ d2
        refine ⟨pk_in at' 41 (by omega), nm_r (oe_fc k.1) (pk_eq (ab at') 0 (fun a0 => nm_r (nI_1 j) (ih (ab at') pc (j + 1) (by omega) d2 (fun z => absurd a0 z) (fun _ => ?_) (by omega))) (fun a0 => nm_r (nI_1 pc) (nm_r (nI_1 j) (ih (ab at') (pc + 1) (j + 1) (by omega) d2 (fun _ => by omega) (fun z => absurd z a0) (by omega)))))⟩
        rw [a0] at q
        omega
      · have := h3 e
        obtain ⟨q1, q2, q3, q4⟩ := oe_bfF T' h2 e b0
        have k2 := hb _ q1
        have z := Z _ q1 b0
        exact ⟨pk_in at' 41 (by omega), nm_r (oe_fc k.1) ⟨pk_in (bf at') 41 (by omega), nm_r (oe_fa k2.1) (nm_r (nI_1 j) (ih (bf at') (pc + sA (bf at')) (j + 1) (by omega) q1 (fun _ => by omega) (fun z => absurd z b0) (by omega)))⟩⟩
  have k := hb x hx
  exact ⟨pl x + 1, L (pl x + 1) x 0 0 (by omega) hx (fun _ => by omega) (fun z => absurd z x0) (by omega)⟩
theorem oe_m1 (k : Nat) : nI k + (-1) + 1 = nI (k + 1) + (-1) := by
  rw [nI_succ, Int32.add_assoc, Int32.add_assoc, Int32.add_comm (-1) 1]
theorem oe_levelOf (T : oe_T D 0 N ab ch nx bf pl sz) {x : Nat} (hx : D x) {post : Int32 → Prop} (hp : post (nI (oe_dp ab x) + (-1))) : wpX_levelOf post (oe_s m us nm fd ab ch nx bf sA rA) (nI x) := by
  have hN := oe_N T
  have T' := T
  obtain ⟨⟨hr, hr0, hrN⟩, hb, hc0, hc, ha, hn0, hn, hb0, hbf, hinj, hsur⟩ := T
  have L : ∀ n at' k j, pl at' + 1 ≤ n → D at' → k + oe_dp ab at' = oe_dp ab x → j + pl at' ≤ 40 → wX_levelOf_7 post (nI m) (oe_f us) (oe_f nm) (oe_f fd) (oe_f ab) (oe_f ch) (oe_f nx) (oe_f bf) (oe_f sA) (oe_f rA) n (nI k + (-1)) (nI at') (nI j) := by
    intro n
    induction n with
    | zero => intro at' k j h1; omega
    | succ n ih =>
      intro at' k j h1 h2 h3 h4
      have b := hb at' h2
      by_cases e : at' = 0
      · have q : wX_levelOf_7 post (nI m) (oe_f us) (oe_f nm) (oe_f fd) (oe_f ab) (oe_f ch) (oe_f nx) (oe_f bf) (oe_f sA) (oe_f rA) (n + 1) (nI (oe_dp ab x) + (-1)) (nI at') (nI j) := pk_le 40 j (fun _ => hp) (fun _ => pk_eq at' 0 (fun _ => hp) (fun z => absurd e z))
        rw [e, oe_dp0] at h3
        rw [show k = oe_dp ab x by omega]
        exact q
      · obtain ⟨_, d2, d3, d4⟩ := ha at' h2 e
        have q := oe_dp_eq T' h2 e
        exact pk_le 40 j (fun z => absurd z (by omega)) (fun _ => pk_eq at' 0 (fun z => absurd z e) (fun _ => nm_r (oe_m1 k) ⟨pk_in at' 41 (by omega), nm_r (oe_fc b.1) (nm_r (nI_1 j) (ih (ab at') (k + 1) (j + 1) (by omega) d2 (by omega) (by omega)))⟩))
  have k := hb x hx
  have w := L (pl x + 1) x 0 0 (by omega) hx (by omega) (by omega)
  exact ⟨pl x + 1, w⟩
theorem oe_behind (T : oe_T D 0 N ab ch nx bf pl sz) {x : Nat} (hx : D x) : ∃ y, D y ∧ (pl x + 1 < N → pl y = pl x + 1) ∧ ∀ post : Int32 → Prop, post (nI y) → wpX_behind post (oe_s m us nm fd ab ch nx bf sA rA) (nI x) := by
  have hN := oe_N T
  have T' := T
  obtain ⟨⟨hr, hr0, hrN⟩, hb, hc0, hc, ha, hn0, hn, hb0, hbf, hinj, hsur⟩ := T
  have k := hb x hx
  have c40 := oe_ch40 T' hx
  by_cases e : ch x = 0
  · have L : ∀ n at' j, pl at' + 1 ≤ n → D at' → pl at' + sz at' = pl x + 1 → j + pl at' ≤ 40 → ∃ y, D y ∧ (pl x + 1 < N → pl y = pl x + 1) ∧ ∀ post : Int32 → Prop, post (nI y) → wX_behind_20 post (nI m) (oe_f us) (oe_f nm) (oe_f fd) (oe_f ab) (oe_f ch) (oe_f nx) (oe_f bf) (oe_f sA) (oe_f rA) n (nI at') (nI j) := by
      intro n
      induction n with
      | zero => intro at' j h1; omega
      | succ n ih =>
        intro at' j h1 h2 h3 h4
        have b := hb at' h2
        by_cases e : at' = 0
        · refine ⟨0, hr, fun h => ?_, fun post hp => ?_⟩
          · rw [e] at h3
            omega
          · have w : wX_behind_52 post (nI at') (nI m) (oe_f us) (oe_f nm) (oe_f fd) (oe_f ab) (oe_f ch) (oe_f nx) (oe_f bf) (oe_f sA) (oe_f rA) := pk_eq at' 0 (fun _ => hp) (fun z => absurd e z)
            exact pk_le 40 j (fun _ => w) (fun _ => pk_eq at' 0 (fun _ => w) (fun z => absurd e z))
        · have p1 := oe_pl1 T' h2 e
          have n40 := oe_nx40 T' h2 e
          by_cases e2 : nx at' = 0
          · obtain ⟨_, d2, d3, d4⟩ := ha at' h2 e
            have q := hn0 at' h2 e e2
            obtain ⟨y, g1, g2, g3⟩ := ih (ab at') (j + 1) (by omega) d2 (by omega) (by omega)
            refine ⟨y, g1, g2, fun post hp => ?_⟩
            exact pk_le 40 j (fun z => absurd z (by omega)) (fun _ => pk_eq at' 0 (fun z => absurd z e) (fun _ => ⟨pk_in at' 41 (by omega), pk_eq (nx at') 0 (fun _ => ⟨pk_in at' 41 (by omega), nm_r (oe_fc b.1) (nm_r (nI_1 j) (g3 post hp))⟩) (fun z => absurd e2 z) (hx := oe_fc b.1)⟩))
          · obtain ⟨d1, d2, d3, d4⟩ := hn at' h2 e e2
            refine ⟨nx at', d1, fun _ => by omega, fun post hp => ?_⟩
            have w : wX_behind_52 post (nI at') (nI m) (oe_f us) (oe_f nm) (oe_f fd) (oe_f ab) (oe_f ch) (oe_f nx) (oe_f bf) (oe_f sA) (oe_f rA) := pk_eq at' 0 (fun z => absurd z e) (fun _ => ⟨pk_in at' 41 (by omega), by rw [oe_fc b.1]; exact hp⟩)
            exact pk_le 40 j (fun z => absurd z (by omega)) (fun _ => pk_eq at' 0 (fun z => absurd z e) (fun _ => ⟨pk_in at' 41 (by omega), pk_eq (nx at') 0 (fun z => absurd z e2) (fun _ => w) (hx := oe_fc b.1)⟩))
    have s1 := hc0 x hx e
    obtain ⟨y, g1, g2, g3⟩ := L (pl x + 1) x 0 (by omega) hx (by omega) (by omega)
    exact ⟨y, g1, g2, fun post hp => And.intro (pk_in x 41 (by omega)) (pk_eq (ch x) 0 (fun _ => ⟨_, g3 post hp⟩) (fun z => absurd e z) (hx := oe_fc k.1))⟩
  · obtain ⟨d1, d2, d3, d4⟩ := hc x hx e
    exact ⟨ch x, d1, fun _ => d4, fun post hp => And.intro (pk_in x 41 (by omega)) (pk_eq (ch x) 0 (fun z => absurd z e) (fun _ => ⟨pk_in x 41 (by omega), by rw [oe_fc k.1]; exact hp⟩) (hx := oe_fc k.1))⟩
theorem oe_deepestIn (T : oe_T D 0 N ab ch nx bf pl sz) {x : Nat} (hx : D x) (hs : sA x < 2 ^ 31) : ∃ v : Int32, ∀ post : Int32 → Prop, post v → wpX_deepestIn post (oe_s m us nm fd ab ch nx bf sA rA) (nI x) := by
  have L : ∀ k (v0 : Int32) at' i, D at' → i + k = sA x → ∃ v : Int32, ∀ post : Int32 → Prop, post v → wX_deepestIn_15 post (nI (sA x)) (nI m) (oe_f us) (oe_f nm) (oe_f fd) (oe_f ab) (oe_f ch) (oe_f nx) (oe_f bf) (oe_f sA) (oe_f rA) (k + 1) v0 (nI at') (nI i) := by
    intro k
    induction k with
    | zero =>
      intro v0 at' i h1 h2
      exact ⟨v0, fun post hp => pk_le (sA x) i (fun _ => hp) (fun z => absurd z (by omega))⟩
    | succ k ih =>
      intro v0 at' i h1 h2
      obtain ⟨y, g1, _, g3⟩ := oe_behind (m := m) (us := us) (nm := nm) (fd := fd) (sA := sA) (rA := rA) T h1
      by_cases e : nI (oe_dp ab at') + (-1) ≤ v0
      · obtain ⟨v, hv⟩ := ih v0 y (i + 1) g1 (by omega)
        exact ⟨v, fun post hp => pk_le (sA x) i (fun z => absurd z (by omega)) (fun _ => oe_levelOf T h1 (br_t e (g3 _ (nm_r (nI_1 i) (hv post hp)))))⟩
      · obtain ⟨v, hv⟩ := ih (nI (oe_dp ab at') + (-1)) y (i + 1) g1 (by omega)
        exact ⟨v, fun post hp => pk_le (sA x) i (fun z => absurd z (by omega)) (fun _ => oe_levelOf T h1 (br_f e (g3 _ (nm_r (nI_1 i) (hv post hp)))))⟩
  have k := T.2.1 x hx
  obtain ⟨v, hv⟩ := L (sA x) 0 x 0 hx (by omega)
  exact ⟨v, fun post hp => And.intro (pk_in x 41 (by omega)) (nm_r (oe_fc k.1) ⟨_, hv post hp⟩)⟩
theorem oe_lastChild (T : oe_T D 0 N ab ch nx bf pl sz) {x : Nat} (hx : D x) : ∃ l, (ch x = 0 → l = 0) ∧ (l ≠ 0 → D l ∧ ab l = x ∧ nx l = 0) ∧ (l = 0 → ch x = 0) ∧ ∀ post : Int32 → Prop, post (nI l) → wpX_lastChild post (oe_s m us nm fd ab ch nx bf sA rA) (nI x) := by
  have hN := oe_N T
  have T' := T
  obtain ⟨⟨hr, hr0, hrN⟩, hb, hc0, hc, ha, hn0, hn, hb0, hbf, hinj, hsur⟩ := T
  have L : ∀ n last c j, 41 ≤ n + j → j ≤ 40 → (c ≠ 0 → D c ∧ ab c = x ∧ j + 1 ≤ pl c) → (c = 0 → D last ∧ last ≠ 0 ∧ ab last = x ∧ nx last = 0) → ∃ l, (D l ∧ l ≠ 0 ∧ ab l = x ∧ nx l = 0) ∧ ∀ post : Int32 → Prop, post (nI l) → wX_lastChild_12 post (nI m) (oe_f us) (oe_f nm) (oe_f fd) (oe_f ab) (oe_f ch) (oe_f nx) (oe_f bf) (oe_f sA) (oe_f rA) n (nI last) (nI c) (nI j) := by
    intro n
    induction n with
    | zero => intro last c j h1 h2; omega
    | succ n ih =>
      intro last c j h1 h2 h3 h4
      by_cases e : c = 0
      · exact ⟨last, h4 e, fun post hp => pk_le 40 j (fun _ => hp) (fun _ => pk_eq c 0 (fun _ => hp) (fun z => absurd e z))⟩
      · obtain ⟨d1, d2, d3⟩ := h3 e
        have b := hb c d1
        obtain ⟨l, g1, g2⟩ := ih c (nx c) (j + 1) (by omega) (by omega) (fun e2 => by
          obtain ⟨q1, q2, q3, q4⟩ := hn c d1 e e2
          exact ⟨q1, by rw [q2, d2], by omega⟩) (fun e2 => ⟨d1, e, d2, e2⟩)
        exact ⟨l, g1, fun post hp => pk_le 40 j (fun z => absurd z (by omega)) (fun _ => pk_eq c 0 (fun z => absurd z e) (fun _ => ⟨pk_in c 41 (by omega), nm_r (oe_fc b.1) (nm_r (nI_1 j) (g2 post hp))⟩))⟩
  have k := hb x hx
  by_cases e : ch x = 0
  · refine ⟨0, fun _ => rfl, fun z => absurd rfl z, fun _ => e, fun post hp => And.intro (pk_in x 41 (by omega)) (nm_r (oe_fc k.1) ⟨1, ?_⟩)⟩
    exact pk_le 40 0 (fun _ => hp) (fun _ => pk_eq (ch x) 0 (fun _ => hp) (fun z => absurd e z))
  · obtain ⟨d1, d2, d3, d4⟩ := hc x hx e
    obtain ⟨l, g1, g2⟩ := L 41 0 (ch x) 0 (by omega) (by omega) (fun _ => ⟨d1, d2, by omega⟩) (fun z => absurd z e)
    exact ⟨l, fun z => absurd z e, fun _ => ⟨g1.1, g1.2.2⟩, fun z => absurd z g1.2.1, fun post hp => And.intro (pk_in x 41 (by omega)) (nm_r (oe_fc k.1) ⟨_, g2 post hp⟩)⟩
theorem oe_inBranch (T : oe_T D 0 N ab ch nx bf pl sz) {x y : Nat} (hx : D x) (x0 : x ≠ 0) (hy : D y) {post : Int32 → Prop} (h1 : pl x ≤ pl y → pl y < pl x + sz x → post 1) (h0 : (pl y < pl x ∨ pl x + sz x ≤ pl y) → post 0) : wpX_inBranch post (oe_s m us nm fd ab ch nx bf sA rA) (nI x) (nI y) := by
  have hN := oe_N T
  have T' := T
  obtain ⟨⟨hr, hr0, hrN⟩, hb, hc0, hc, ha, hn0, hn, hb0, hbf, hinj, hsur⟩ := T
  have x1 := oe_pl1 T' hx x0
  have bx := hb x hx
  have L : ∀ n at' j, pl at' + 1 ≤ n → D at' → j + pl at' ≤ 40 → ((pl x ≤ pl y ∧ pl y < pl x + sz x) ↔ (pl x ≤ pl at' ∧ pl at' < pl x + sz x)) → wX_inBranch_5 post (nI x) (nI m) (oe_f us) (oe_f nm) (oe_f fd) (oe_f ab) (oe_f ch) (oe_f nx) (oe_f bf) (oe_f sA) (oe_f rA) n (nI at') (nI j) := by
    intro n
    induction n with
    | zero => intro at' j h1; omega
    | succ n ih =>
      intro at' j g1 g2 g3 g4
      have b := hb at' g2
      by_cases e : at' = 0
      · have w : post 0 := h0 (by
          rw [e] at g4
          omega)
        exact pk_le 40 j (fun _ => w) (fun _ => pk_eq at' 0 (fun _ => w) (fun z => absurd e z))
      · have p1 := oe_pl1 T' g2 e
        obtain ⟨_, d2, d3, d4⟩ := ha at' g2 e
        refine pk_le 40 j (fun z => absurd z (by omega)) (fun _ => pk_eq at' 0 (fun z => absurd z e) (fun _ => pk_eq at' x (fun z => ?_) (fun z => ⟨pk_in at' 41 (by omega), nm_r (oe_fc b.1) (nm_r (nI_1 j) (ih (ab at') (j + 1) (by omega) d2 (by omega) ?_))⟩)))
        · rw [z] at g4
          have := g4.mpr ⟨by omega, by omega⟩
          exact h1 this.1 this.2
        · have ne : pl at' ≠ pl x := fun q => z (hinj _ _ g2 hx q)
          refine g4.trans ⟨fun q => ?_, fun q => ?_⟩
          · have l := oe_lam' T' hx g2 (by omega) q.2
            have b2 := hb _ d2
            omega
          · have l := oe_nest T' hx d2 q.1 q.2
            omega
  have k := hb y hy
  exact ⟨pl y + 1, L (pl y + 1) y 0 (by omega) hy (by omega) Iff.rfl⟩
end
end
section
theorem oe_rf_le (fd ch nx : Nat → Nat) : ∀ n c, oe_rf fd ch nx n c ≤ oe_rf oe_z ch nx n c := by
  intro n
  induction n with
  | zero => intro c; exact Nat.le_refl _
  | succ n ih =>
    intro c
    by_cases e : c = 0
    · rw [e, oe_rf0, oe_rf0]
      exact Nat.le_refl _
    · have h1 := ih (ch c)
      have h2 := ih (nx c)
      simp only [oe_rf, if_neg e]
      rw [if_pos (show oe_z c = 0 from rfl)]
      by_cases e2 : fd c = 0
      · rw [if_pos e2]
        omega
      · rw [if_neg e2]
        omega
theorem oe_rt_le (fd ch nx : Nat → Nat) (c : Nat) : oe_rt fd ch nx c ≤ oe_rt oe_z ch nx c := oe_rf_le fd ch nx 41 c
section
variable {D : Nat → Prop} {N : Nat} {ab ch nx bf pl sz : Nat → Nat} {m : Nat} {us nm fd sA rA : Nat → Nat}
theorem oe_rA41 (T : oe_T D 0 N ab ch nx bf pl sz) {y : Nat} (hy : D y) (o : oe_ok fd ch nx sA rA y) : rA y ≤ 41 := by
  have h := oe_rt_le fd ch nx (ch y)
  have h2 := oe_sz T hy
  have h3 := T.2.1 y hy
  have hN := oe_N T
  have o2 := o.2
  have h4 : oe_one y ≤ 1 := by
    unfold oe_one
    by_cases e : y = 0
    · rw [if_pos e]
      omega
    · rw [if_neg e]
      omega
  by_cases e : fd y = 0
  · rw [if_pos e] at o2
    omega
  · rw [if_neg e] at o2
    omega
/-- the row of c is v: the walk up from c adds v -/
def oe_rw (m : Nat) (us nm fd ab ch nx bf sA rA pl : Nat → Nat) (c v : Nat) : Prop := ∀ (row j : Nat) (post : Int32 → Prop), j + pl c ≤ 40 → post (nI (row + v)) → ∃ n, wX_rowOf_21 post (nI m) (oe_f us) (oe_f nm) (oe_f fd) (oe_f ab) (oe_f ch) (oe_f nx) (oe_f bf) (oe_f sA) (oe_f rA) n (nI c) (nI row) (nI j)
theorem oe_rw_bf (T : oe_T D 0 N ab ch nx bf pl sz) {c v : Nat} (hc : D c) (c0 : c ≠ 0) (e : bf c ≠ 0) (h : oe_rw m us nm fd ab ch nx bf sA rA pl (bf c) v) : oe_rw m us nm fd ab ch nx bf sA rA pl c (v + rA (bf c)) := by
  intro row j post hj hp
  obtain ⟨q1, q2, q3, q4⟩ := oe_bfF T hc c0 e
  have b := T.2.1 c hc
  have b2 := T.2.1 _ q1
  obtain ⟨n, hn⟩ := h (row + rA (bf c)) (j + 1) post (by omega) (by
    rw [show row + rA (bf c) + v = row + (v + rA (bf c)) by omega]
    exact hp)
  exact ⟨n + 1, pk_le 80 j (fun z => absurd z (by omega)) (fun _ => pk_eq c 0 (fun z => absurd z c0) (fun _ => ⟨pk_in c 41 (by omega), pk_eq (bf c) 0 (fun z => absurd z e) (fun _ => ⟨pk_in c 41 (by omega), nm_r (oe_fc b.1) ⟨pk_in (bf c) 41 (by omega), nm_r (oe_fa b2.1) (nm_r (nI_1 j) hn)⟩⟩) (hx := oe_fc b.1)⟩))⟩
theorem oe_rw_top (T : oe_T D 0 N ab ch nx bf pl sz) {c : Nat} (hc : D c) (c0 : c ≠ 0) (e : bf c = 0) (e2 : ab c = 0) : oe_rw m us nm fd ab ch nx bf sA rA pl c 0 := by
  intro row j post hj hp
  have b := T.2.1 c hc
  have p1 := oe_pl1 T hc c0
  have w : wX_rowOf_21 post (nI m) (oe_f us) (oe_f nm) (oe_f fd) (oe_f ab) (oe_f ch) (oe_f nx) (oe_f bf) (oe_f sA) (oe_f rA) 1 (nI (ab c)) (nI row) (nI (j + 1)) := pk_le 80 (j + 1) (fun z => absurd z (by omega)) (fun _ => pk_eq (ab c) 0 (fun _ => hp) (fun z => absurd e2 z))
  refine ⟨2, pk_le 80 j (fun z => absurd z (by omega)) (fun _ => pk_eq c 0 (fun z => absurd z c0) (fun _ => ⟨pk_in c 41 (by omega), pk_eq (bf c) 0 (fun z => ⟨pk_in c 41 (by omega), nm_r (oe_fc b.1) (pk_eq (ab c) 0 (fun _ => ?_) (fun z => absurd e2 z))⟩) (fun z => absurd e z) (hx := oe_fc b.1)⟩))⟩
  exact pk_eq (ab c) 0 (fun _ => nm_r (nI_1 j) w) (fun z => absurd e2 z)
theorem oe_rw_up (T : oe_T D 0 N ab ch nx bf pl sz) (f1 : ∀ y, fd y ≤ 1) {c v : Nat} (hc : D c) (c0 : c ≠ 0) (e : bf c = 0) (e2 : ab c ≠ 0) (e3 : fd (ab c) = 0) (h : oe_rw m us nm fd ab ch nx bf sA rA pl (ab c) v) : oe_rw m us nm fd ab ch nx bf sA rA pl c (v + 1) := by
  intro row j post hj hp
  have b := T.2.1 c hc
  obtain ⟨_, d2, d3, d4⟩ := T.2.2.2.2.1 c hc c0
  have b2 := T.2.1 _ d2
  obtain ⟨n, hn⟩ := h (row + 1) (j + 1) post (by omega) (by
    rw [show row + 1 + v = row + (v + 1) by omega]
    exact hp)
  refine ⟨n + 1, pk_le 80 j (fun z => absurd z (by omega)) (fun _ => pk_eq c 0 (fun z => absurd z c0) (fun _ => ⟨pk_in c 41 (by omega), pk_eq (bf c) 0 (fun z => ⟨pk_in c 41 (by omega), nm_r (oe_fc b.1) (pk_eq (ab c) 0 (fun z => absurd z e2) (fun _ => ⟨pk_in (ab c) 41 (by omega), pk_eq (fd (ab c)) 0 (fun _ => ?_) (fun z => absurd e3 z) (hx := oe_fc b2.1)⟩))⟩) (fun z => absurd e z) (hx := oe_fc b.1)⟩))⟩
  exact pk_eq (ab c) 0 (fun z => absurd z e2) (fun _ => nm_r (nI_1 row) (nm_r (nI_1 j) hn))
theorem oe_rowOf21 (T : oe_T D 0 N ab ch nx bf pl sz) (f1 : ∀ y, fd y ≤ 1) : ∀ n at', D at' → pl at' ≤ n → ∀ row j : Nat, j + pl at' ≤ 40 → ∃ v : Int32, ∀ post : Int32 → Prop, post v → ∃ n, wX_rowOf_21 post (nI m) (oe_f us) (oe_f nm) (oe_f fd) (oe_f ab) (oe_f ch) (oe_f nx) (oe_f bf) (oe_f sA) (oe_f rA) n (nI at') (nI row) (nI j) := by
  have root : ∀ row j : Nat, j ≤ 40 → ∃ v : Int32, ∀ post : Int32 → Prop, post v → ∃ n, wX_rowOf_21 post (nI m) (oe_f us) (oe_f nm) (oe_f fd) (oe_f ab) (oe_f ch) (oe_f nx) (oe_f bf) (oe_f sA) (oe_f rA) n (nI 0) (nI row) (nI j) := by
    intro row j hj
    exact ⟨nI row, fun post hp => ⟨1, pk_le 80 j (fun z => absurd z (by omega)) (fun _ => pk_eq 0 0 (fun _ => hp) (fun z => absurd rfl z))⟩⟩
  intro n
  induction n with
  | zero =>
    intro at' h1 h2 row j h3
    rw [oe_pl0 T h1 (by omega)]
    exact root row j (by omega)
  | succ n ih =>
    intro c hc h2 row j h3
    by_cases c0 : c = 0
    · rw [c0]
      exact root row j (by omega)
    · have b := T.2.1 c hc
      by_cases e : bf c = 0
      · obtain ⟨_, d2, d3, d4⟩ := T.2.2.2.2.1 c hc c0
        have b2 := T.2.1 _ d2
        by_cases e2 : ab c = 0
        · refine ⟨nI row, fun post hp => ?_⟩
          exact oe_rw_top T hc c0 e e2 row j post h3 hp
        · by_cases e3 : fd (ab c) = 0
          · obtain ⟨v, hv⟩ := ih (ab c) d2 (by omega) (row + 1) (j + 1) (by omega)
            refine ⟨v, fun post hp => ?_⟩
            obtain ⟨n', hn⟩ := hv post hp
            refine ⟨n' + 1, pk_le 80 j (fun z => absurd z (by omega)) (fun _ => pk_eq c 0 (fun z => absurd z c0) (fun _ => ⟨pk_in c 41 (by omega), pk_eq (bf c) 0 (fun z => ⟨pk_in c 41 (by omega), nm_r (oe_fc b.1) (pk_eq (ab c) 0 (fun z => absurd z e2) (fun _ => ⟨pk_in (ab c) 41 (by omega), pk_eq (fd (ab c)) 0 (fun _ => ?_) (fun z => absurd e3 z) (hx := oe_fc b2.1)⟩))⟩) (fun z => absurd e z) (hx := oe_fc b.1)⟩))⟩
            exact pk_eq (ab c) 0 (fun z => absurd z e2) (fun _ => nm_r (nI_1 row) (nm_r (nI_1 j) hn))
          · have f := f1 (ab c)
            refine ⟨-4, fun post hp => ⟨1, pk_le 80 j (fun z => absurd z (by omega)) (fun _ => pk_eq c 0 (fun z => absurd z c0) (fun _ => ⟨pk_in c 41 (by omega), pk_eq (bf c) 0 (fun z => ⟨pk_in c 41 (by omega), nm_r (oe_fc b.1) (pk_eq (ab c) 0 (fun z => absurd z e2) (fun _ => ⟨pk_in (ab c) 41 (by omega), pk_eq (fd (ab c)) 0 (fun z => absurd z e3) (fun _ => hp) (hx := oe_fc b2.1)⟩))⟩) (fun z => absurd e z) (hx := oe_fc b.1)⟩))⟩⟩
      · obtain ⟨q1, q2, q3, q4⟩ := oe_bfF T hc c0 e
        have b2 := T.2.1 _ q1
        obtain ⟨v, hv⟩ := ih (bf c) q1 (by omega) (row + rA (bf c)) (j + 1) (by omega)
        refine ⟨v, fun post hp => ?_⟩
        obtain ⟨n', hn⟩ := hv post hp
        exact ⟨n' + 1, pk_le 80 j (fun z => absurd z (by omega)) (fun _ => pk_eq c 0 (fun z => absurd z c0) (fun _ => ⟨pk_in c 41 (by omega), pk_eq (bf c) 0 (fun z => absurd z e) (fun _ => ⟨pk_in c 41 (by omega), nm_r (oe_fc b.1) ⟨pk_in (bf c) 41 (by omega), nm_r (oe_fa b2.1) (nm_r (nI_1 j) hn)⟩⟩) (hx := oe_fc b.1)⟩))⟩
theorem oe_rowNode (T : oe_T D 0 N ab ch nx bf pl sz) (O : ∀ y, D y → oe_ok fd ch nx sA rA y) (f0 : fd 0 = 0) (f1 : ∀ y, fd y ≤ 1) {r : Nat} (hr : r < rA 0) :
    ∃ c, D c ∧ c ≠ 0 ∧ oe_rw m us nm fd ab ch nx bf sA rA pl c r ∧ ∀ post : Int32 → Prop, post (nI c) → wpX_rowNode post (oe_s m us nm fd ab ch nx bf sA rA) (nI r) := by
  have hN := oe_N T
  have r41 := oe_rA41 T T.1.1 (O 0 T.1.1)
  have L : ∀ n c v rest j, 41 ≤ n + j → D c → c ≠ 0 → oe_rw m us nm fd ab ch nx bf sA rA pl c v → v + rest = r → rest < oe_rt fd ch nx c → j + 1 ≤ pl c →
      ∃ c', D c' ∧ c' ≠ 0 ∧ oe_rw m us nm fd ab ch nx bf sA rA pl c' r ∧ ∀ post : Int32 → Prop, post (nI c') → wX_rowNode_12 post (nI m) (oe_f us) (oe_f nm) (oe_f fd) (oe_f ab) (oe_f ch) (oe_f nx) (oe_f bf) (oe_f sA) (oe_f rA) n (nI c) (nI rest) (nI j) := by
    intro n
    induction n with
    | zero =>
      intro c v rest j h1 h2 h3 h4 h5 h6 h7
      have := T.2.1 c h2
      omega
    | succ n ih =>
      intro c v rest j h1 h2 h3 h4 h5 h6 h7
      have b := T.2.1 c h2
      have q := oe_rt_eq fd T h2 h3
      have o := (O c h2).2
      have c41 := oe_rA41 T h2 (O c h2)
      rw [oe_one1 h3] at o
      rw [← o] at q
      by_cases e : rest = 0
      · refine ⟨c, h2, h3, ?_, fun post hp => pk_le 80 j (fun z => absurd z (by omega)) (fun _ => pk_le rest 0 (fun _ => hp) (fun z => absurd z (by omega)))⟩
        rw [show r = v by omega]
        exact h4
      · by_cases g : rest < rA c
        · have fz : fd c = 0 := Classical.byContradiction fun hne => by
            rw [if_neg hne] at o
            omega
          rw [if_pos fz] at o
          have c0 : ch c ≠ 0 := fun z => by
            rw [z, oe_rt0] at o
            omega
          obtain ⟨d1, d2, d3, d4⟩ := T.2.2.2.1 c h2 c0
          have hw : oe_rw m us nm fd ab ch nx bf sA rA pl (ch c) (v + 1) := oe_rw_up T f1 d1 c0 d3 (by rw [d2]; exact h3) (by rw [d2]; exact fz) (by rw [d2]; exact h4)
          obtain ⟨c', g1, g2, g3, g4⟩ := ih (ch c) (v + 1) (rest - 1) (j + 1) (by omega) d1 c0 hw (by omega) (by omega) (by omega)
          exact ⟨c', g1, g2, g3, fun post hp => pk_le 80 j (fun z => absurd z (by omega)) (fun _ => pk_le rest 0 (fun z => absurd z (by omega)) (fun _ => pk_eq c 0 (fun z => absurd z h3) (fun _ => ⟨pk_in c 41 (by omega), pk_lt rest (rA c) (fun _ => nm_r (sb_m1 (by omega)) ⟨pk_in c 41 (by omega), nm_r (oe_fc b.1) (nm_r (nI_1 j) (g4 post hp))⟩) (fun z => absurd z (by omega)) (hy := oe_fc b.1)⟩)))⟩
        · have c0 : nx c ≠ 0 := fun z => by
            rw [z, oe_rt0] at q
            omega
          obtain ⟨d1, d2, d3, d4⟩ := T.2.2.2.2.2.2.1 c h2 h3 c0
          have hw : oe_rw m us nm fd ab ch nx bf sA rA pl (nx c) (v + rA c) := by
            have w := oe_rw_bf (m := m) (us := us) (nm := nm) (fd := fd) (sA := sA) (rA := rA) (v := v) T d1 c0 (by rw [d3]; exact h3) (by rw [d3]; exact h4)
            rw [d3] at w
            exact w
          obtain ⟨c', g1, g2, g3, g4⟩ := ih (nx c) (v + rA c) (rest - rA c) (j + 1) (by omega) d1 c0 hw (by omega) (by omega) (by omega)
          exact ⟨c', g1, g2, g3, fun post hp => pk_le 80 j (fun z => absurd z (by omega)) (fun _ => pk_le rest 0 (fun z => absurd z (by omega)) (fun _ => pk_eq c 0 (fun z => absurd z h3) (fun _ => ⟨pk_in c 41 (by omega), pk_lt rest (rA c) (fun z => absurd z (by omega)) (fun g => ⟨pk_in c 41 (by omega), nm_r (e' := nI (rest - rA c)) (by rw [oe_fc b.1, pk_sub g]) ⟨pk_in c 41 (by omega), nm_r (oe_fc b.1) (nm_r (nI_1 j) (g4 post hp))⟩⟩) (hy := oe_fc b.1)⟩)))⟩
  have o := (O 0 T.1.1).2
  rw [if_pos f0, oe_one0] at o
  have c0 : ch 0 ≠ 0 := fun z => by
    rw [z, oe_rt0] at o
    omega
  obtain ⟨d1, d2, d3, d4⟩ := T.2.2.2.1 0 T.1.1 c0
  obtain ⟨c', g1, g2, g3, g4⟩ := L 41 (ch 0) 0 r 0 (by omega) d1 c0 (oe_rw_top T d1 c0 d3 d2) (by omega) (by omega) (by omega)
  exact ⟨c', g1, g2, g3, fun post hp => nm_e ⟨41, g4 post hp⟩⟩
theorem oe_row (T : oe_T D 0 N ab ch nx bf pl sz) (O : ∀ y, D y → oe_ok fd ch nx sA rA y) (f0 : fd 0 = 0) (f1 : ∀ y, fd y ≤ 1) {r : Nat} (hr : r < rA 0) :
    ∃ c, D c ∧ c ≠ 0 ∧ oe_rw m us nm fd ab ch nx bf sA rA pl c r ∧ ∀ post : Int32 → Prop, post (nI (pl c - 1)) → wpX_row post (oe_s m us nm fd ab ch nx bf sA rA) (nI r) := by
  have r41 := oe_rA41 T T.1.1 (O 0 T.1.1)
  obtain ⟨c, g1, g2, g3, g4⟩ := oe_rowNode (m := m) (us := us) (nm := nm) T O f0 f1 hr
  exact ⟨c, g1, g2, g3, fun post hp => br_f (nI_pos (by omega)) (pk_lt r (rA 0) (fun _ => g4 _ (oe_placeOf T (oe_okS T O).1 g1 g2 hp)) (fun z => absurd z (by omega)))⟩
theorem oe_row_out (T : oe_T D 0 N ab ch nx bf pl sz) (O : ∀ y, D y → oe_ok fd ch nx sA rA y) {r : Nat} (hr : rA 0 ≤ r) (h : r < 2 ^ 31) {post : Int32 → Prop} (hp : post (-4)) : wpX_row post (oe_s m us nm fd ab ch nx bf sA rA) (nI r) := by
  have r41 := oe_rA41 T T.1.1 (O 0 T.1.1)
  exact br_f (nI_pos h) (pk_lt r (rA 0) (fun z => absurd z (by omega)) (fun _ => hp))
theorem oe_row_det (T : oe_T D 0 N ab ch nx bf pl sz) (O : ∀ y, D y → oe_ok fd ch nx sA rA y) (f0 : fd 0 = 0) (f1 : ∀ y, fd y ≤ 1) {i : Nat} (hi : i < 2 ^ 31) : ∃ v : Int32, ∀ post : Int32 → Prop, post v → wpX_row post (oe_s m us nm fd ab ch nx bf sA rA) (nI i) := by
  by_cases h : i < rA 0
  · obtain ⟨c, _, _, _, g⟩ := oe_row (m := m) (us := us) (nm := nm) T O f0 f1 h
    exact ⟨_, g⟩
  · exact ⟨-4, fun post hp => oe_row_out T O (by omega) hi hp⟩
theorem oe_s0 (T : oe_T D 0 N ab ch nx bf pl sz) (O : ∀ y, D y → oe_ok fd ch nx sA rA y) : sA 0 < 2 ^ 31 := by
  have := (oe_okS T O).2
  have := oe_N T
  omega
/-- a method that begins with bad(i) and looks for the heading at i -/
theorem oe_at (T : oe_T D 0 N ab ch nx bf pl sz) (O : ∀ y, D y → oe_ok fd ch nx sA rA y) {i : Nat} (hi : i < sA 0) : ∃ y, D y ∧ y ≠ 0 ∧ pl y = i + 1 := by
  have := (oe_okS T O).2
  obtain ⟨y, h1, h2⟩ := T.2.2.2.2.2.2.2.2.2.2 (i + 1) (by omega)
  exact ⟨y, h1, fun e => by
    rw [e] at h2
    have := T.1.2.1
    omega, h2⟩
theorem oe_look {B : Prop} {post : Int32 → Prop} (T : oe_T D 0 N ab ch nx bf pl sz) (O : ∀ y, D y → oe_ok fd ch nx sA rA y) {y i : Nat} (hy : D y) (h : pl y = i + 1) (hp : post (nI y)) : wpX_bad (fun r_1 => (r_1 = 0 → wpX_nodeAt post (oe_s m us nm fd ab ch nx bf sA rA) (nI i)) ∧ (¬ r_1 = 0 → B)) (oe_s m us nm fd ab ch nx bf sA rA) (nI i) := by
  have q := (oe_okS T O).2
  have b := T.2.1 y hy
  have hN := oe_N T
  exact oe_bad (by omega) (oe_s0 T O) (fun _ => br_t rfl (oe_nodeAt T (oe_okS T O).1 hy h hp)) (fun z => absurd z (by omega))
theorem oe_level (T : oe_T D 0 N ab ch nx bf pl sz) (O : ∀ y, D y → oe_ok fd ch nx sA rA y) {y i : Nat} (hy : D y) (h : pl y = i + 1) {post : Int32 → Prop} (hp : post (nI (oe_dp ab y) + (-1))) : wpX_level post (oe_s m us nm fd ab ch nx bf sA rA) (nI i) :=
  oe_look T O hy h (oe_levelOf T hy hp)
theorem oe_name (T : oe_T D 0 N ab ch nx bf pl sz) (O : ∀ y, D y → oe_ok fd ch nx sA rA y) {y i : Nat} (hy : D y) (h : pl y = i + 1) {post : Int32 → Prop} (hp : post (nI (nm y))) : wpX_name post (oe_s m us nm fd ab ch nx bf sA rA) (nI i) := by
  have b := T.2.1 y hy
  exact oe_look T O hy h ⟨pk_in y 41 (by omega), by rw [oe_fc b.1]; exact hp⟩
theorem oe_out {A : Prop} {post : Prop} (T : oe_T D 0 N ab ch nx bf pl sz) (O : ∀ y, D y → oe_ok fd ch nx sA rA y) {i : Nat} (hi : sA 0 ≤ i) (h : i < 2 ^ 31) (hp : post) : wpX_bad (fun r_1 => (r_1 = 0 → A) ∧ (¬ r_1 = 0 → post)) (oe_s m us nm fd ab ch nx bf sA rA) (nI i) :=
  oe_bad h (oe_s0 T O) (fun z => absurd z (by omega)) (fun _ => br_f (by decide) hp)
theorem oe_level_det (T : oe_T D 0 N ab ch nx bf pl sz) (O : ∀ y, D y → oe_ok fd ch nx sA rA y) {i : Nat} (hi : i < 2 ^ 31) : ∃ v : Int32, ∀ post : Int32 → Prop, post v → wpX_level post (oe_s m us nm fd ab ch nx bf sA rA) (nI i) := by
  by_cases h : i < sA 0
  · obtain ⟨y, h1, h2, h3⟩ := oe_at T O h
    exact ⟨_, fun post hp => oe_level T O h1 h3 hp⟩
  · exact ⟨-1, fun post hp => oe_out (m := m) (us := us) (nm := nm) T O (by omega) hi hp⟩
theorem oe_name_det (T : oe_T D 0 N ab ch nx bf pl sz) (O : ∀ y, D y → oe_ok fd ch nx sA rA y) {i : Nat} (hi : i < 2 ^ 31) : ∃ v : Int32, ∀ post : Int32 → Prop, post v → wpX_name post (oe_s m us nm fd ab ch nx bf sA rA) (nI i) := by
  by_cases h : i < sA 0
  · obtain ⟨y, h1, h2, h3⟩ := oe_at T O h
    exact ⟨_, fun post hp => oe_name T O h1 h3 hp⟩
  · exact ⟨-1, fun post hp => oe_out (m := m) (us := us) (nm := nm) T O (by omega) hi hp⟩
theorem oe_rowOf_det (T : oe_T D 0 N ab ch nx bf pl sz) (O : ∀ y, D y → oe_ok fd ch nx sA rA y) (f1 : ∀ y, fd y ≤ 1) {i : Nat} (hi : i < 2 ^ 31) : ∃ v : Int32, ∀ post : Int32 → Prop, post v → wpX_rowOf post (oe_s m us nm fd ab ch nx bf sA rA) (nI i) := by
  by_cases h : i < sA 0
  · obtain ⟨y, h1, h2, h3⟩ := oe_at T O h
    have b := T.2.1 y h1
    have hN := oe_N T
    obtain ⟨v, hv⟩ := oe_rowOf21 (m := m) (us := us) (nm := nm) (sA := sA) (rA := rA) T f1 (pl y) y h1 (Nat.le_refl _) 0 0 (by omega)
    exact ⟨v, fun post hp => oe_look T O h1 h3 (hv post hp)⟩
  · exact ⟨-1, fun post hp => oe_out (m := m) (us := us) (nm := nm) T O (by omega) hi hp⟩
theorem oe_rowOf (T : oe_T D 0 N ab ch nx bf pl sz) (O : ∀ y, D y → oe_ok fd ch nx sA rA y) {c r : Nat} (hc : D c) (c0 : c ≠ 0) (h : oe_rw m us nm fd ab ch nx bf sA rA pl c r) {post : Int32 → Prop} (hp : post (nI r)) : wpX_rowOf post (oe_s m us nm fd ab ch nx bf sA rA) (nI (pl c - 1)) := by
  have p1 := oe_pl1 T hc c0
  have b := T.2.1 c hc
  have hN := oe_N T
  exact oe_look T O hc (by omega) (h 0 0 post (by omega) (by rw [Nat.zero_add]; exact hp))
theorem oe_place (T : oe_T D 0 N ab ch nx bf pl sz) (Z : ∀ y, D y → y ≠ 0 → sA y = sz y) (hD : ∀ y, us y ≠ 0 → D y ∧ y ≠ 0) (u1 : ∀ y, us y ≤ 1) (hm : m < 2 ^ 31) (n1 : ∀ y, us y ≠ 0 → nm y < m) (n2 : ∀ y z, us y ≠ 0 → us z ≠ 0 → nm y = nm z → y = z) {y : Nat} (hy : us y ≠ 0) {post : Int32 → Prop} (hp : post (nI (pl y - 1))) : wpX_place post (oe_s m us nm fd ab ch nx bf sA rA) (nI (nm y)) := by
  obtain ⟨dy, y0⟩ := hD y hy
  have y40 := (T.2.1 y dy).1
  have ny := n1 y hy
  have L : ∀ n x, 42 ≤ n + x → x ≤ y → 1 ≤ x → wX_place_2 post (nI (nm y)) (nI m) (oe_f us) (oe_f nm) (oe_f fd) (oe_f ab) (oe_f ch) (oe_f nx) (oe_f bf) (oe_f sA) (oe_f rA) n (nI x) := by
    intro n
    induction n with
    | zero => intro x h1 h2; omega
    | succ n ih =>
      intro x h1 h2 h3
      have ux := u1 x
      refine pk_lt 40 x (fun z => absurd z (by omega)) (fun _ => ⟨pk_in x 41 (by omega), pk_eq (us x) 0 (fun z => nm_r (nI_1 x) (ih (x + 1) (by omega) ?_ (by omega))) (fun z => ⟨pk_in x 41 (by omega), pk_eq (nm x) (nm y) (fun g => ?_) (fun g => nm_r (nI_1 x) (ih (x + 1) (by omega) ?_ (by omega))) (hx := oe_fc (by omega)) (ha := by have := n1 x z; omega)⟩) (hx := oe_fc (by omega))⟩)
      · have : x ≠ y := fun e => hy (by rw [← e]; exact z)
        omega
      · rw [n2 x y z hy g]
        exact oe_placeOf T Z dy y0 hp
      · have : x ≠ y := fun e => g (by rw [e])
        omega
  exact ⟨41, L 41 1 (by omega) (by omega) (by omega)⟩
end
end
section
/-- the headings in use, and the outline itself -/
abbrev oe_D (us : Nat → Nat) : Nat → Prop := fun y => y = 0 ∨ us y ≠ 0
/-- marks, names, folds -/
def oe_J (m : Nat) (us nm fd : Nat → Nat) : Prop := (∀ y, us y ≤ 1) ∧ us 0 = 0 ∧ (∀ y, fd y ≤ 1) ∧ fd 0 = 0 ∧ (∀ y, us y ≠ 0 → nm y < m) ∧ (∀ y z, us y ≠ 0 → us z ≠ 0 → nm y = nm z → y = z)
/-- the invariant between two calls -/
def oe_I (m : Nat) (us nm fd ab ch nx bf sA rA : Nat → Nat) : Prop := oe_J m us nm fd ∧ (∀ y, oe_D us y → oe_ok fd ch nx sA rA y) ∧ ∃ (N : Nat) (pl sz : Nat → Nat), oe_T (oe_D us) 0 N ab ch nx bf pl sz
/-- a call ends in a state of the invariant; the answer and that state don't depend on what is asked behind it -/
def oe_step (m : Nat) (W : (Int32 → St1 → Prop) → Prop) : Prop := ∃ (m' : Nat) (us' nm' fd' ab' ch' nx' bf' sA' rA' : Nat → Nat) (v : Int32), oe_I m' us' nm' fd' ab' ch' nx' bf' sA' rA' ∧ m' ≤ m + 1 ∧ ∀ post : Int32 → St1 → Prop, post v (oe_s m' us' nm' fd' ab' ch' nx' bf' sA' rA') → W post
section
variable {D E : Nat → Prop} {N k x p s : Nat} {ab ch nx bf pl sz pm sm : Nat → Nat} {m : Nat} {us nm fd sA rA : Nat → Nat}
theorem oe_same {W : (Int32 → St1 → Prop) → Prop} (I : oe_I m us nm fd ab ch nx bf sA rA) (v : Int32) (h : ∀ post : Int32 → St1 → Prop, post v (oe_s m us nm fd ab ch nx bf sA rA) → W post) : oe_step m W :=
  ⟨m, us, nm, fd, ab, ch, nx, bf, sA, rA, v, I, by omega, h⟩
theorem oe_linkI (J : oe_J m us nm fd) (T : oe_T D 0 N ab ch nx bf pl sz) (S : oe_T E x k ab ch nx bf pm sm) (cov : ∀ y, oe_D us y ↔ (D y ∨ E y)) (dj : ∀ y, D y → E y → False) (hp : D p) (hs : s ≠ 0 → D s ∧ ab s = p)
    (O : ∀ y, oe_D us y → oe_ok fd ch nx sA rA y) :
    ∃ sB rB : Nat → Nat, oe_I m us nm fd (oe_u ab x p) (oe_lc ch x p s) (oe_ln nx x s (oe_lt ch nx p s)) (oe_lb bf x s (oe_lt ch nx p s)) sB rB ∧ (∀ y, ¬ oe_D us y → sB y = sA y ∧ rB y = rA y) ∧
      ∀ post : St1 → Prop, post (oe_s m us nm fd (oe_u ab x p) (oe_lc ch x p s) (oe_ln nx x s (oe_lt ch nx p s)) (oe_lb bf x s (oe_lt ch nx p s)) sB rB) → wpX_link post (oe_s m us nm fd ab ch nx bf sA rA) (nI x) (nI p) (nI s) := by
  have e : oe_D us = fun y => D y ∨ E y := funext fun y => propext (cov y)
  obtain ⟨sB, rB, g1, g2, g3⟩ := oe_link (m := m) (us := us) (nm := nm) (sA := sA) (rA := rA) (fd := fd) T S dj hp hs J.2.2.1 (fun y hy => O y ((cov y).mpr (Or.inl hy))) (fun y hy => O y ((cov y).mpr (Or.inr hy)))
  obtain ⟨pl', sz', C, _⟩ := oe_putT T S dj hp hs
  refine ⟨sB, rB, ⟨J, fun y hy => g1 y ((cov y).mp hy), N + k, pl', sz', ?_⟩, fun y hy => g2 y (fun h => hy ((cov y).mpr h)), g3⟩
  rw [e]
  exact C
/-- a lone node is a tree -/
theorem oe_lone (hx : x ≤ 40) (x0 : x ≠ 0) : oe_T (fun y => y = x) x 1 ab (oe_u ch x 0) nx bf (fun _ => 0) (fun _ => 1) := by
  refine ⟨⟨rfl, rfl, rfl⟩, ?_, ?_, ?_, ?_, ?_, ?_, ?_, ?_, ?_, ?_⟩
  · intro y hy
    have : y = x := hy
    exact ⟨by omega, Nat.le_refl _, Nat.le_refl _⟩
  · intro y _ _
    rfl
  · intro y hy h
    have e : y = x := hy
    rw [e, oe_us] at h
    exact absurd rfl h
  · intro y hy h
    exact absurd hy h
  · intro y hy h
    exact absurd hy h
  · intro y hy h
    exact absurd hy h
  · intro y hy h
    exact absurd hy h
  · intro y hy h
    exact absurd hy h
  · intro y z hy hz _
    have e1 : y = x := hy
    have e2 : z = x := hz
    rw [e1, e2]
  · intro i hi
    exact ⟨x, rfl, show 0 = i by omega⟩
theorem oe_fresh5 (u1 : ∀ y, us y ≤ 1) : ∀ n x1, n ≤ 40 → ((us x1 = 0 ∧ 1 ≤ x1 ∧ x1 ≤ 40) ∨ ∃ k, 1 ≤ k ∧ k ≤ n ∧ us k = 0) → ∃ x, (us x = 0 ∧ 1 ≤ x ∧ x ≤ 40) ∧ ∀ post : Int32 → St1 → Prop, post (nI x) (oe_s (m + 1) (oe_u us x 1) (oe_u nm x m) (oe_u fd x 0) ab (oe_u ch x 0) nx bf (oe_u sA x 1) (oe_u rA x 1)) → wX_fresh_5 post (nI m) (oe_f us) (oe_f nm) (oe_f fd) (oe_f ab) (oe_f ch) (oe_f nx) (oe_f bf) (oe_f sA) (oe_f rA) (n + 1) (nI x1) (nI n) := by
  intro n
  induction n with
  | zero =>
    intro x1 _ h
    have h' : us x1 = 0 ∧ 1 ≤ x1 ∧ x1 ≤ 40 := by
      rcases h with h | ⟨k, h1, h2, _⟩
      · exact h
      · omega
    obtain ⟨h1, h2, h3⟩ := h'
    refine ⟨x1, ⟨h1, h2, h3⟩, fun post hp => pk_le 0 0 (fun _ => ⟨pk_in x1 41 (by omega), nm_r (oe_fu (v := 1) h3) ⟨pk_in x1 41 (by omega), nm_r (oe_fu h3) (nm_r (nI_1 m) ⟨pk_in x1 41 (by omega), nm_r (oe_fu (v := 0) h3) ⟨pk_in x1 41 (by omega), nm_r (oe_fu (v := 0) h3) ?_⟩⟩)⟩⟩) (fun z => absurd z (by omega))⟩
    have x0 : x1 ≠ 0 := by omega
    refine oe_pull (oe_lone (ab := ab) (ch := ch) (nx := nx) (bf := bf) h3 x0) (x := x1) (fd := oe_u fd x1 0) rfl (by rw [oe_us]; omega) (fun c e1 e2 _ => absurd e1 e2) ?_
    rw [oe_one1 x0, oe_us, oe_us, oe_rt0, oe_rt0, if_pos rfl]
    exact hp
  | succ n ih =>
    intro x1 h0 h
    have un := u1 (n + 1)
    by_cases e : us (n + 1) = 0
    · obtain ⟨x, g1, g2⟩ := ih (n + 1) (by omega) (Or.inl ⟨e, by omega, h0⟩)
      exact ⟨x, g1, fun post hp => pk_le (n + 1) 0 (fun z => absurd z (by omega)) (fun _ => ⟨pk_in (n + 1) 41 (by omega), pk_eq (us (n + 1)) 0 (fun _ => nm_r (pk_m1 n) (g2 post hp)) (fun z => absurd e z) (hx := oe_fc (by omega))⟩)⟩
    · obtain ⟨x, g1, g2⟩ := ih x1 (by omega) (by
        rcases h with h | ⟨k, h1, h2, h3⟩
        · exact Or.inl h
        · refine Or.inr ⟨k, h1, ?_, h3⟩
          have : k ≠ n + 1 := fun z => e (by rw [← z]; exact h3)
          omega)
      exact ⟨x, g1, fun post hp => pk_le (n + 1) 0 (fun z => absurd z (by omega)) (fun _ => ⟨pk_in (n + 1) 41 (by omega), pk_eq (us (n + 1)) 0 (fun z => absurd z e) (fun _ => nm_r (pk_m1 n) (g2 post hp)) (hx := oe_fc (by omega))⟩)⟩
/-- fresh: a lone node beside the tree -/
theorem oe_fresh (J : oe_J m us nm fd) (T : oe_T (oe_D us) 0 N ab ch nx bf pl sz) (O : ∀ y, oe_D us y → oe_ok fd ch nx sA rA y) (h : sA 0 ≠ 40) :
    ∃ (x : Nat) (us' nm' fd' ch' sA' rA' : Nat → Nat), x ≤ 40 ∧ oe_J (m + 1) us' nm' fd' ∧ oe_T (oe_D us) 0 N ab ch' nx bf pl sz ∧ oe_T (fun y => y = x) x 1 ab ch' nx bf (fun _ => 0) (fun _ => 1) ∧ (∀ y, oe_D us' y ↔ (oe_D us y ∨ y = x)) ∧ (∀ y, oe_D us y → y = x → False) ∧ (∀ y, oe_D us' y → oe_ok fd' ch' nx sA' rA' y) ∧
      ∀ post : Int32 → St1 → Prop, post (nI x) (oe_s (m + 1) us' nm' fd' ab ch' nx bf sA' rA') → wpX_fresh post (oe_s m us nm fd ab ch nx bf sA rA) := by
  have hN := oe_N T
  have z := (oe_okS T O).2
  obtain ⟨k, k1, k2, k3⟩ := oe_free T (Or.inl rfl) (by omega)
  obtain ⟨u1, u0, f1, f0, n1, n2⟩ := J
  obtain ⟨x, ⟨g1, g2, g3⟩, g4⟩ := oe_fresh5 (m := m) (nm := nm) (fd := fd) (ab := ab) (ch := ch) (nx := nx) (bf := bf) (sA := sA) (rA := rA) u1 40 1 (by omega) (Or.inr ⟨k, k1, k2, Classical.byContradiction fun hne => k3 (Or.inr hne)⟩)
  have x0 : x ≠ 0 := by omega
  have nD : ∀ y, oe_D us y → y ≠ x := fun y hy e => by
    rcases hy with h | h
    · omega
    · exact h (by rw [e]; exact g1)
  have eD : ∀ y, oe_D (oe_u us x 1) y ↔ (oe_D us y ∨ y = x) := fun y => by
    by_cases e : y = x
    · rw [e]
      exact ⟨fun _ => Or.inr rfl, fun _ => Or.inr (by rw [oe_us]; omega)⟩
    · constructor
      · rintro (h | h)
        · exact Or.inl (Or.inl h)
        · rw [oe_un e] at h
          exact Or.inl (Or.inr h)
      · rintro ((h | h) | h)
        · exact Or.inl h
        · exact Or.inr (by rw [oe_un e]; exact h)
        · exact absurd h e
  refine ⟨x, oe_u us x 1, oe_u nm x m, oe_u fd x 0, oe_u ch x 0, oe_u sA x 1, oe_u rA x 1, g3, ⟨?_, ?_, ?_, ?_, ?_, ?_⟩, ?_, oe_lone g3 x0, eD, fun y hy e => nD y hy e, ?_, fun post hp => ⟨41, g4 post hp⟩⟩
  · intro y
    by_cases e : y = x
    · rw [e, oe_us]
      omega
    · rw [oe_un e]
      exact u1 y
  · rw [oe_un x0.symm]
    exact u0
  · intro y
    by_cases e : y = x
    · rw [e, oe_us]
      omega
    · rw [oe_un e]
      exact f1 y
  · rw [oe_un x0.symm]
    exact f0
  · intro y hy
    by_cases e : y = x
    · rw [e, oe_us]
      omega
    · rw [oe_un e] at hy ⊢
      have := n1 y hy
      omega
  · intro y w hy hw e
    by_cases e1 : y = x
    · by_cases e2 : w = x
      · rw [e1, e2]
      · rw [oe_un e2] at hw
        rw [e1, oe_us, oe_un e2] at e
        have := n1 w hw
        omega
    · by_cases e2 : w = x
      · rw [oe_un e1] at hy
        rw [e2, oe_us, oe_un e1] at e
        have := n1 y hy
        omega
      · rw [oe_un e1] at hy
        rw [oe_un e2] at hw
        rw [oe_un e1, oe_un e2] at e
        exact n2 y w hy hw e
  · exact oe_frame T (fun y => Iff.rfl) (fun y hy => ⟨oe_un (nD y hy), rfl, rfl⟩) (fun y _ _ => ⟨rfl, rfl, rfl⟩)
  · intro y hy
    by_cases e : y = x
    · rw [e]
      unfold oe_ok
      rw [oe_us, oe_us, oe_us, oe_us, oe_one1 x0, oe_rt0, oe_rt0, if_pos rfl]
      exact ⟨rfl, rfl⟩
    · have dy : oe_D us y := by
        rcases (eD y).mp hy with h | h
        · exact h
        · exact absurd h e
      refine oe_ok_same (O y dy) (oe_un e) (oe_un e) (oe_un e) (oe_un e) (fun c => oe_D us c ∧ c ≠ 0) ?_ (fun h => ⟨(T.2.2.2.1 y dy h).1, h⟩)
      rintro c ⟨q1, q2⟩ _
      have cx := nD c q1
      exact ⟨oe_un cx, oe_un cx, rfl, fun h => ⟨(T.2.2.2.1 c q1 h).1, h⟩, fun h => ⟨(T.2.2.2.2.2.2.1 c q1 q2 h).1, h⟩⟩
theorem oe_full {post : Int32 → Prop} (h : sA 0 < 2 ^ 31) (h1 : sA 0 = 40 → post 1) (h0 : sA 0 ≠ 40 → post 0) : wpX_full post (oe_s m us nm fd ab ch nx bf sA rA) :=
  pk_eq (sA 0) 40 h1 h0
theorem oe_addUnder (I : oe_I m us nm fd ab ch nx bf sA rA) {i : Nat} (hi : i < 2 ^ 31) : oe_step m (fun post => wpX_addUnder post (oe_s m us nm fd ab ch nx bf sA rA) (nI i)) := by
  obtain ⟨J, O, N, pl, sz, T⟩ := id I
  have s0 := oe_s0 T O
  by_cases h : i < sA 0
  · obtain ⟨p, p1, p0, p2⟩ := oe_at T O h
    by_cases g : sA 0 = 40
    · refine oe_same I (-2) (fun post hp => ?_)
      unfold wpX_addUnder
      refine oe_bad hi s0 (fun _ => br_t rfl ?_) (fun z => absurd z (by omega))
      exact oe_full s0 (fun _ => br_f (by decide) hp) (fun z => absurd g z)
    · by_cases e : nI (oe_dp ab p) + (-1) = 7
      · refine oe_same I (-4) (fun post hp => ?_)
        unfold wpX_addUnder
        refine oe_bad hi s0 (fun _ => br_t rfl ?_) (fun z => absurd z (by omega))
        refine oe_full s0 (fun z => absurd z g) (fun _ => br_t rfl ?_)
        exact oe_nodeAt T (oe_okS T O).1 p1 p2 (oe_levelOf T p1 (br_t e hp))
      · obtain ⟨x, us', nm', fd', ch', sA', rA', x40, J', T', S', eD, dj, O', F⟩ := oe_fresh J T O g
        obtain ⟨sB, rB, I2, _, W⟩ := oe_linkI (s := 0) J' T' S' eD dj p1 (fun z => absurd rfl z) O'
        refine ⟨_, _, _, _, _, _, _, _, _, _, nI (nm' x), I2, by omega, fun post hp => ?_⟩
        unfold wpX_addUnder
        refine oe_bad hi s0 (fun _ => br_t rfl ?_) (fun z => absurd z (by omega))
        refine oe_full s0 (fun z => absurd z g) (fun _ => br_t rfl ?_)
        refine oe_nodeAt T (oe_okS T O).1 p1 p2 (oe_levelOf T p1 (br_f e ?_))
        exact F _ (W _ ⟨pk_in x 41 (by omega), by rw [oe_fc x40]; exact hp⟩)
  · exact oe_same I (-1) (fun post hp => oe_out (m := m) (us := us) (nm := nm) T O (by omega) hi hp)
theorem oe_addAfter (I : oe_I m us nm fd ab ch nx bf sA rA) {i : Nat} (hi : i < 2 ^ 31) : oe_step m (fun post => wpX_addAfter post (oe_s m us nm fd ab ch nx bf sA rA) (nI i)) := by
  obtain ⟨J, O, N, pl, sz, T⟩ := id I
  have s0 := oe_s0 T O
  by_cases h : i < sA 0
  · obtain ⟨p, p1, p0, p2⟩ := oe_at T O h
    have b := T.2.1 p p1
    by_cases g : sA 0 = 40
    · refine oe_same I (-2) (fun post hp => ?_)
      unfold wpX_addAfter
      refine oe_bad hi s0 (fun _ => br_t rfl ?_) (fun z => absurd z (by omega))
      exact oe_full s0 (fun _ => br_f (by decide) hp) (fun z => absurd g z)
    · obtain ⟨x, us', nm', fd', ch', sA', rA', x40, J', T', S', eD, dj, O', F⟩ := oe_fresh J T O g
      obtain ⟨sB, rB, I2, _, W⟩ := oe_linkI (p := ab p) (s := p) J' T' S' eD dj (T.2.2.2.2.1 p p1 p0).2.1 (fun _ => ⟨p1, rfl⟩) O'
      refine ⟨_, _, _, _, _, _, _, _, _, _, nI (nm' x), I2, by omega, fun post hp => ?_⟩
      unfold wpX_addAfter
      refine oe_bad hi s0 (fun _ => br_t rfl ?_) (fun z => absurd z (by omega))
      refine oe_full s0 (fun z => absurd z g) (fun _ => br_t rfl ?_)
      refine oe_nodeAt T (oe_okS T O).1 p1 p2 ?_
      refine F _ (And.intro (pk_in p 41 (by omega)) ?_)
      rw [oe_fc b.1]
      exact W _ ⟨pk_in x 41 (by omega), by rw [oe_fc x40]; exact hp⟩
  · exact oe_same I (-1) (fun post hp => oe_out (m := m) (us := us) (nm := nm) T O (by omega) hi hp)
end
end
section
theorem oe_m2 (k : Nat) : nI k + (-1) + 1 = nI k := by
  rw [Int32.add_assoc, show (-1 : Int32) + 1 = 0 by decide, Int32.add_zero]
theorem oe_lt1 : ∀ l, l < 8 → nI l + (-1) < nI l := by decide +kernel
section
variable {N k x p s : Nat} {ab ch nx bf pl sz : Nat → Nat} {m : Nat} {us nm fd sA rA : Nat → Nat}
theorem oe_add65 {D : Nat → Prop} (T : oe_T D 0 N ab ch nx bf pl sz) {l : Nat} (hl : l < 8) : ∀ d p, D p → oe_dp ab p = l + d → ∃ q, D q ∧ ∀ post : Int32 → St1 → Prop, wX_add_65 post (nI l) (nI m) (oe_f us) (oe_f nm) (oe_f fd) (oe_f ab) (oe_f ch) (oe_f nx) (oe_f bf) (oe_f sA) (oe_f rA) 1 (nI q) (nI l + (-1)) → wX_add_65 post (nI l) (nI m) (oe_f us) (oe_f nm) (oe_f fd) (oe_f ab) (oe_f ch) (oe_f nx) (oe_f bf) (oe_f sA) (oe_f rA) (d + 1) (nI p) (nI (l + d) + (-1)) := by
  intro d
  induction d with
  | zero => intro p h1 _; exact ⟨p, h1, fun post h => h⟩
  | succ d ih =>
    intro p h1 h2
    have p0 : p ≠ 0 := fun e => by
      rw [e, oe_dp0] at h2
      omega
    have b := T.2.1 p h1
    have hN := oe_N T
    have hd := oe_dp_le T (pl p) p h1 (Nat.le_refl _)
    have q := oe_dp_eq T h1 p0
    obtain ⟨w, g1, g2⟩ := ih (ab p) (T.2.2.2.2.1 p h1 p0).2.1 (by omega)
    refine ⟨w, g1, fun post h => ?_⟩
    refine br_f ?_ ⟨pk_in p 41 (by omega), nm_r (oe_fc b.1) (nm_r (e' := nI (l + d) + (-1)) ?_ (g2 post h))⟩
    · rw [show l + (d + 1) = l + d + 1 by omega, pk_m1]
      exact nI_nlt (by omega) (by omega)
    · rw [show l + (d + 1) = l + d + 1 by omega, pk_m1]
theorem oe_add46 (I : oe_I m us nm fd ab ch nx bf sA rA) (T : oe_T (oe_D us) 0 N ab ch nx bf pl sz) (g : sA 0 ≠ 40) {l : Nat} (hl : l < 8) (hp : oe_D us p) : oe_step m (fun post => wX_add_46 post (nI l) (nI p) (nI m) (oe_f us) (oe_f nm) (oe_f fd) (oe_f ab) (oe_f ch) (oe_f nx) (oe_f bf) (oe_f sA) (oe_f rA)) := by
  obtain ⟨J, O, _⟩ := id I
  have hN := oe_N T
  have b := T.2.1 p hp
  have hd := oe_dp_le T (pl p) p hp (Nat.le_refl _)
  by_cases e : l ≤ oe_dp ab p
  · obtain ⟨q, g1, g2⟩ := oe_add65 (m := m) (us := us) (nm := nm) (fd := fd) (sA := sA) (rA := rA) T hl (oe_dp ab p - l) p hp (by omega)
    obtain ⟨x, us', nm', fd', ch', sA', rA', x40, J', T', S', eD, dj, O', F⟩ := oe_fresh J T O g
    obtain ⟨c, c1, c2, c3, c4⟩ := oe_lastChild (m := m + 1) (us := us') (nm := nm') (fd := fd') (sA := sA') (rA := rA') T' g1
    obtain ⟨sB, rB, I2, _, W⟩ := oe_linkI (p := q) (s := c) J' T' S' eD dj g1 (fun z => ⟨(c2 z).1, (c2 z).2.1⟩) O'
    refine ⟨_, _, _, _, _, _, _, _, _, _, nI (nm' x), I2, by omega, fun post hp' => ?_⟩
    refine oe_levelOf T hp (br_t (by rw [oe_m2]; exact nI_le e (by omega)) ⟨oe_dp ab p - l + 1, ?_⟩)
    have w := g2 post (br_t (oe_lt1 l hl) (F _ (c4 _ (W _ ⟨pk_in x 41 (by omega), by rw [oe_fc x40]; exact hp'⟩))))
    rw [show l + (oe_dp ab p - l) = oe_dp ab p by omega] at w
    exact w
  · exact oe_same I (-4) (fun post hp' => oe_levelOf T hp (br_f (by rw [oe_m2]; exact nI_ge (by omega) (by omega)) hp'))
theorem oe_add (I : oe_I m us nm fd ab ch nx bf sA rA) {l : Nat} (hl : l < 8) : oe_step m (fun post => wpX_add post (oe_s m us nm fd ab ch nx bf sA rA) (nI l)) := by
  obtain ⟨J, O, N, pl, sz, T⟩ := id I
  have s0 := oe_s0 T O
  by_cases g : sA 0 = 40
  · refine oe_same I (-2) (fun post hp => ?_)
    unfold wpX_add
    refine br_f (nI_pos (by omega)) (br_t (nI_le (b := 7) (by omega) (by omega)) ?_)
    exact oe_full s0 (fun _ => br_f (by decide) hp) (fun z => absurd g z)
  · by_cases e : sA 0 = 0
    · obtain ⟨m', us', nm', fd', ab', ch', nx', bf', sA', rA', v, I', h1, h2⟩ := oe_add46 I T g hl (Or.inl rfl)
      refine ⟨m', us', nm', fd', ab', ch', nx', bf', sA', rA', v, I', h1, fun post hp => ?_⟩
      unfold wpX_add
      refine br_f (nI_pos (by omega)) (br_t (nI_le (b := 7) (by omega) (by omega)) ?_)
      refine oe_full s0 (fun z => absurd z g) (fun _ => br_t rfl (pk_le (sA 0) 0 (fun _ => ?_) (fun z => absurd z (by omega))))
      exact h2 post hp
    · obtain ⟨p, p1, p0, p2⟩ := oe_at T O (i := sA 0 - 1) (by omega)
      obtain ⟨m', us', nm', fd', ab', ch', nx', bf', sA', rA', v, I', h1, h2⟩ := oe_add46 I T g hl p1
      refine ⟨m', us', nm', fd', ab', ch', nx', bf', sA', rA', v, I', h1, fun post hp => ?_⟩
      unfold wpX_add
      refine br_f (nI_pos (by omega)) (br_t (nI_le (b := 7) (by omega) (by omega)) ?_)
      refine oe_full s0 (fun z => absurd z g) (fun _ => br_t rfl (pk_le (sA 0) 0 (fun z => absurd z (by omega)) (fun _ => ?_)))
      have w : wpX_nodeAt (fun r_72 => (wX_add_46 post (nI l) r_72 (nI m) (oe_f us) (oe_f nm) (oe_f fd) (oe_f ab) (oe_f ch) (oe_f nx) (oe_f bf) (oe_f sA) (oe_f rA))) (oe_s m us nm fd ab ch nx bf sA rA) (nI (sA 0 - 1)) := oe_nodeAt T (oe_okS T O).1 p1 p2 (h2 post hp)
      rw [show nI (sA 0 - 1) = oe_f sA 0 - 1 by
        show _ = nI (sA 0) - 1
        rw [← nI_pred, show sA 0 - 1 + 1 = sA 0 by omega]] at w
      exact w
theorem oe_remove29 (T : oe_T (oe_D us) 0 N ab ch nx bf pl sz) (hx : oe_D us x) (hz : sA x = sz x) : ∀ d i at' (us1 : Nat → Nat), i + d = sz x → oe_D us at' → (0 < d → pl at' = pl x + i) →
    (∀ y, oe_D us y → pl x ≤ pl y → pl y < pl x + i → us1 y = 0) → (∀ y, ¬ (oe_D us y ∧ pl x ≤ pl y ∧ pl y < pl x + i) → us1 y = us y) →
    ∃ us2 : Nat → Nat, (∀ y, oe_D us y → pl x ≤ pl y → pl y < pl x + sz x → us2 y = 0) ∧ (∀ y, ¬ (oe_D us y ∧ pl x ≤ pl y ∧ pl y < pl x + sz x) → us2 y = us y) ∧
      ∀ post : Int32 → St1 → Prop, (∀ z : Int32, wX_remove_29 post (nI x) (nI (sA x)) (nI m) 1 z (nI (sz x)) (oe_f us2) (oe_f nm) (oe_f fd) (oe_f ab) (oe_f ch) (oe_f nx) (oe_f bf) (oe_f sA) (oe_f rA)) → wX_remove_29 post (nI x) (nI (sA x)) (nI m) (d + 1) (nI at') (nI i) (oe_f us1) (oe_f nm) (oe_f fd) (oe_f ab) (oe_f ch) (oe_f nx) (oe_f bf) (oe_f sA) (oe_f rA) := by
  have hN := oe_N T
  have bx := T.2.1 x hx
  intro d
  induction d with
  | zero =>
    intro i at' us1 h1 h2 h3 h4 h5
    have e : i = sz x := by omega
    rw [e] at h4 h5 ⊢
    exact ⟨us1, h4, h5, fun post h => h _⟩
  | succ d ih =>
    intro i at' us1 h1 h2 h3 h4 h5
    have h6 := h3 (by omega)
    have b := T.2.1 at' h2
    obtain ⟨y, y1, y2, y3⟩ := oe_behind (m := m) (us := oe_u us1 at' 0) (nm := nm) (fd := fd) (sA := sA) (rA := rA) T h2
    obtain ⟨us2, g1, g2, g3⟩ := ih (i + 1) y (oe_u us1 at' 0) (by omega) y1 (fun _ => by
        have := y2 (by omega)
        omega) (fun w w1 w2 w3 => by
        by_cases e : w = at'
        · rw [e, oe_us]
        · rw [oe_un e]
          have : pl w ≠ pl at' := fun z => e (T.2.2.2.2.2.2.2.2.2.1 w at' w1 h2 z)
          exact h4 w w1 w2 (by omega)) (fun w w1 => by
        have e : w ≠ at' := fun z => w1 (by
          rw [z]
          exact ⟨h2, by omega, by omega⟩)
        rw [oe_un e]
        exact h5 w (fun z => w1 ⟨z.1, z.2.1, by omega⟩))
    exact ⟨us2, g1, g2, fun post h => pk_le (sA x) i (fun z => absurd z (by omega)) (fun _ => ⟨pk_in at' 41 (by omega), nm_r (oe_fu (v := 0) b.1) (y3 _ (nm_r (nI_1 i) (g3 post h)))⟩)⟩
theorem oe_remove (I : oe_I m us nm fd ab ch nx bf sA rA) {i : Nat} (hi : i < 2 ^ 31) : oe_step m (fun post => wpX_remove post (oe_s m us nm fd ab ch nx bf sA rA) (nI i)) := by
  obtain ⟨J, O, N, pl, sz, T⟩ := id I
  have s0 := oe_s0 T O
  have hN := oe_N T
  by_cases h : i < sA 0
  · obtain ⟨x, p1, p0, p2⟩ := oe_at T O h
    have b := T.2.1 x p1
    have hz := (oe_okS T O).1 x p1 p0
    obtain ⟨us2, g1, g2, g3⟩ := oe_remove29 (m := m) (nm := nm) (fd := fd) (rA := rA) T p1 hz (sz x) 0 x us (by omega) p1 (fun _ => by omega) (fun y _ _ _ => by omega) (fun y _ => rfl)
    obtain ⟨sB, rB, O2, _, W⟩ := oe_unlink (m := m) (us := us2) (nm := nm) T p1 p0 J.2.2.1 O
    have C := oe_cutT T p1 p0
    have le : ∀ y, us2 y ≠ 0 → us2 y = us y := fun y hy => g2 y (fun z => hy (g1 y z.1 z.2.1 z.2.2))
    obtain ⟨u1, u0, f1, f0, n1, n2⟩ := id J
    have eD : ∀ y, oe_D us2 y ↔ oe_cd (oe_D us) pl sz x y := fun y => by
      constructor
      · intro hy
        have y1 : oe_D us y := by
          rcases hy with e | e
          · exact Or.inl e
          · exact Or.inr (by rw [← le y e]; exact e)
        refine ⟨y1, Classical.byContradiction fun hne => ?_⟩
        rcases hy with e | e
        · have := T.1.2.1
          rw [e] at hne
          omega
        · exact e (g1 y y1 (by omega) (by omega))
      · rintro ⟨y1, y2⟩
        rcases y1 with e | e
        · exact Or.inl e
        · exact Or.inr (by rw [g2 y (by omega)]; exact e)
    have e : oe_D us2 = oe_cd (oe_D us) pl sz x := funext fun y => propext (eD y)
    refine ⟨m, us2, nm, fd, ab, oe_cc ab ch nx bf x, oe_cn nx bf x, oe_cb nx bf x, sB, rB, nI (sA x), ⟨⟨?_, ?_, f1, f0, ?_, ?_⟩, ?_, N - sz x, oe_cp pl sz x, oe_cz pl sz x, ?_⟩, by omega, fun post hp => ?_⟩
    · intro y
      by_cases q : us2 y = 0
      · omega
      · rw [le y q]
        exact u1 y
    · refine Classical.byContradiction fun q => ?_
      rw [le 0 q] at q
      exact q u0
    · intro y q
      have q2 := le y q
      rw [q2] at q
      exact n1 y q
    · intro y z q r
      have q2 := le y q
      have r2 := le z r
      rw [q2] at q
      rw [r2] at r
      exact n2 y z q r
    · intro y hy
      exact O2 y ((eD y).mp hy).1
    · rw [e]
      exact C
    · unfold wpX_remove
      refine oe_look T O p1 p2 ⟨pk_in x 41 (by omega), nm_r (oe_fc b.1) ⟨sz x + 1, g3 post (fun z => ?_)⟩⟩
      exact pk_le (sA x) (sz x) (fun _ => W _ hp) (fun z => absurd z (by omega))
  · exact oe_same I (-1) (fun post hp => oe_out (m := m) (us := us) (nm := nm) T O (by omega) hi hp)
end
end
section
/-- the pointers behind unlink(x), link(x, p, s) -/
abbrev oe_mt (ab ch nx bf : Nat → Nat) (x p s : Nat) : Nat := oe_lt (oe_cc ab ch nx bf x) (oe_cn nx bf x) p s
abbrev oe_mc (ab ch nx bf : Nat → Nat) (x p s : Nat) : Nat → Nat := oe_lc (oe_cc ab ch nx bf x) x p s
abbrev oe_mn (ab ch nx bf : Nat → Nat) (x p s : Nat) : Nat → Nat := oe_ln (oe_cn nx bf x) x s (oe_mt ab ch nx bf x p s)
abbrev oe_mb (ab ch nx bf : Nat → Nat) (x p s : Nat) : Nat → Nat := oe_lb (oe_cb nx bf x) x s (oe_mt ab ch nx bf x p s)
section
variable {D : Nat → Prop} {N k x p s : Nat} {ab ch nx bf pl sz : Nat → Nat} {m : Nat} {us nm fd sA rA sB rB : Nat → Nat}
theorem oe_relink (T : oe_T D 0 N ab ch nx bf pl sz) (hx : D x) (x0 : x ≠ 0) (f1 : ∀ y, fd y ≤ 1) (O : ∀ y, D y → oe_ok fd (oe_cc ab ch nx bf x) (oe_cn nx bf x) sB rB y) (hp : oe_cd D pl sz x p) (hs : s ≠ 0 → oe_cd D pl sz x s ∧ ab s = p) :
    ∃ sC rC pl' sz' : Nat → Nat, oe_T D 0 N (oe_u ab x p) (oe_mc ab ch nx bf x p s) (oe_mn ab ch nx bf x p s) (oe_mb ab ch nx bf x p s) pl' sz' ∧
      (∀ y, D y → oe_ok fd (oe_mc ab ch nx bf x p s) (oe_mn ab ch nx bf x p s) sC rC y) ∧ (∀ y, ¬ D y → sC y = sB y ∧ rC y = rB y) ∧
      pl' x = oe_la (oe_cp pl sz x) (oe_cz pl sz x) p s ∧
      (∀ y, oe_cd D pl sz x y → oe_cp pl sz x y < oe_la (oe_cp pl sz x) (oe_cz pl sz x) p s → pl' y = oe_cp pl sz x y) ∧
      (∀ y, oe_cd D pl sz x y → oe_cp pl sz x y ≤ oe_cp pl sz x p → oe_cp pl sz x p < oe_cp pl sz x y + oe_cz pl sz x y → sz' y = oe_cz pl sz x y + sz x) ∧
      (∀ y, oe_cd D pl sz x y → (oe_cp pl sz x p < oe_cp pl sz x y ∨ oe_cp pl sz x y + oe_cz pl sz x y ≤ oe_cp pl sz x p) → sz' y = oe_cz pl sz x y) ∧
      ∀ post : St1 → Prop, post (oe_s m us nm fd (oe_u ab x p) (oe_mc ab ch nx bf x p s) (oe_mn ab ch nx bf x p s) (oe_mb ab ch nx bf x p s) sC rC) → wpX_link post (oe_s m us nm fd ab (oe_cc ab ch nx bf x) (oe_cn nx bf x) (oe_cb nx bf x) sB rB) (nI x) (nI p) (nI s) := by
  have C := oe_cutT T hx x0
  have S := oe_subT T hx x0
  have b := T.2.1 x hx
  have dj : ∀ y, oe_cd D pl sz x y → oe_ce D pl sz x y → False := fun y h1 h2 => by
    have := h1.2
    have := h2.2
    omega
  have cov : ∀ y, (oe_cd D pl sz x y ∨ oe_ce D pl sz x y) ↔ D y := fun y => by
    constructor
    · rintro (h | h)
      · exact h.1
      · exact h.1
    · intro h
      by_cases q : pl y < pl x ∨ pl x + sz x ≤ pl y
      · exact Or.inl ⟨h, q⟩
      · exact Or.inr ⟨h, by omega, by omega⟩
  have e : D = fun y => oe_cd D pl sz x y ∨ oe_ce D pl sz x y := funext fun y => propext (cov y).symm
  obtain ⟨sC, rC, g1, g2, g3⟩ := oe_link (m := m) (us := us) (nm := nm) (sA := sB) (rA := rB) (fd := fd) C S dj hp hs f1 (fun y hy => O y hy.1) (fun y hy => O y hy.1)
  obtain ⟨pl', sz', Q, P1, P2, P3, S1, S2, S3⟩ := oe_putT C S dj hp hs
  refine ⟨sC, rC, pl', sz', ?_, fun y hy => g1 y ((cov y).mpr hy), fun y hy => g2 y (fun h => hy ((cov y).mp h)), ?_, P2, S2, S3, g3⟩
  · rw [← e, show N - sz x + sz x = N by omega] at Q
    exact Q
  · have := P1 x ⟨hx, by omega, by omega⟩
    omega
end
section
variable {N k x p s : Nat} {ab ch nx bf pl sz : Nat → Nat} {m : Nat} {us nm fd sA rA : Nat → Nat}
theorem oe_indent (I : oe_I m us nm fd ab ch nx bf sA rA) {i : Nat} (hi : i < 2 ^ 31) : oe_step m (fun post => wpX_indent post (oe_s m us nm fd ab ch nx bf sA rA) (nI i)) := by
  obtain ⟨J, O, N, pl, sz, T⟩ := id I
  have hN := oe_N T
  by_cases h : i < sA 0
  · obtain ⟨x, p1, p0, p2⟩ := oe_at T O h
    have b := T.2.1 x p1
    have b40 := oe_bf40 T p1 p0
    by_cases e : bf x = 0
    · refine oe_same I (-4) (fun post hp => ?_)
      unfold wpX_indent
      exact oe_look T O p1 p2 ⟨pk_in x 41 (by omega), nm_r (oe_fc b.1) (pk_eq (bf x) 0 (fun _ => hp) (fun z => absurd e z))⟩
    · obtain ⟨q1, q2, q3, q4⟩ := oe_bfF T p1 p0 e
      have b2 := T.2.1 _ q1
      obtain ⟨vd, hvd⟩ := oe_deepestIn (m := m) (us := us) (nm := nm) (fd := fd) (sA := sA) (rA := rA) T p1 (by rw [(oe_okS T O).1 x p1 p0]; omega)
      by_cases e7 : vd = 7
      · refine oe_same I (-4) (fun post hp => ?_)
        unfold wpX_indent
        exact oe_look T O p1 p2 ⟨pk_in x 41 (by omega), nm_r (oe_fc b.1) (pk_eq (bf x) 0 (fun z => absurd z e) (fun _ => hvd _ (br_t e7 hp)))⟩
      · obtain ⟨sB, rB, O2, _, W1⟩ := oe_unlink (m := m) (us := us) (nm := nm) T p1 p0 J.2.2.1 O
        have dS : oe_cd (oe_D us) pl sz x (bf x) := ⟨q1, Or.inl (by omega)⟩
        obtain ⟨c, _, c2, _, c4⟩ := oe_lastChild (m := m) (us := us) (nm := nm) (fd := fd) (sA := sB) (rA := rB) (oe_cutT T p1 p0) dS
        obtain ⟨sC, rC, pl', sz', T', O', _, _, _, _, _, W2⟩ := oe_relink (m := m) (us := us) (nm := nm) (s := c) T p1 p0 J.2.2.1 O2 dS (fun z => ⟨(c2 z).1, (c2 z).2.1⟩)
        refine ⟨_, _, _, _, _, _, _, _, _, _, nI (oe_dp (oe_u ab x (bf x)) x) + (-1), ⟨J, O', N, pl', sz', T'⟩, by omega, fun post hp => ?_⟩
        unfold wpX_indent
        refine oe_look T O p1 p2 ⟨pk_in x 41 (by omega), nm_r (oe_fc b.1) (pk_eq (bf x) 0 (fun z => absurd z e) (fun _ => hvd _ (br_f e7 ?_)))⟩
        exact W1 _ (c4 _ (W2 _ (oe_levelOf T' p1 hp)))
  · exact oe_same I (-1) (fun post hp => oe_out (m := m) (us := us) (nm := nm) T O (by omega) hi hp)
theorem oe_up (I : oe_I m us nm fd ab ch nx bf sA rA) {i : Nat} (hi : i < 2 ^ 31) : oe_step m (fun post => wpX_up post (oe_s m us nm fd ab ch nx bf sA rA) (nI i)) := by
  obtain ⟨J, O, N, pl, sz, T⟩ := id I
  have hN := oe_N T
  by_cases h : i < sA 0
  · obtain ⟨x, p1, p0, p2⟩ := oe_at T O h
    have b := T.2.1 x p1
    have b40 := oe_bf40 T p1 p0
    by_cases e : bf x = 0
    · refine oe_same I (-4) (fun post hp => ?_)
      unfold wpX_up
      exact oe_look T O p1 p2 ⟨pk_in x 41 (by omega), nm_r (oe_fc b.1) (pk_eq (bf x) 0 (fun _ => hp) (fun z => absurd e z))⟩
    · obtain ⟨q1, q2, q3, q4⟩ := oe_bfF T p1 p0 e
      have b2 := T.2.1 _ q1
      obtain ⟨_, a2, a3, _⟩ := T.2.2.2.2.1 _ q1 e
      obtain ⟨sB, rB, O2, _, W1⟩ := oe_unlink (m := m) (us := us) (nm := nm) T p1 p0 J.2.2.1 O
      have nn : bf x ≠ nx x := fun z => by
        have := (T.2.2.2.2.2.2.1 x p1 p0 (by rw [← z]; exact e)).2.2.2
        rw [← z] at this
        omega
      obtain ⟨sC, rC, pl', sz', T', O', _, _, _, _, _, W2⟩ := oe_relink (m := m) (us := us) (nm := nm) (p := ab (bf x)) (s := bf (bf x)) T p1 p0 J.2.2.1 O2 ⟨a2, Or.inl (by omega)⟩ (fun z => by
        obtain ⟨w1, w2, w3, w4⟩ := oe_bfF T q1 e z
        exact ⟨⟨w1, Or.inl (by omega)⟩, w3⟩)
      refine ⟨_, _, _, _, _, _, _, _, _, _, nI (pl' x - 1), ⟨J, O', N, pl', sz', T'⟩, by omega, fun post hp => ?_⟩
      unfold wpX_up
      refine oe_look T O p1 p2 ⟨pk_in x 41 (by omega), nm_r (oe_fc b.1) (pk_eq (bf x) 0 (fun z => absurd z e) (fun _ => ?_))⟩
      refine W1 _ (And.intro (pk_in (bf x) 41 (by omega)) ⟨pk_in (bf x) 41 (by omega), ?_⟩)
      rw [oe_fc b40, oe_fc b40, oe_cb2 nn]
      exact W2 _ (oe_placeOf T' (oe_okS T' O').1 p1 p0 hp)
  · exact oe_same I (-1) (fun post hp => oe_out (m := m) (us := us) (nm := nm) T O (by omega) hi hp)
theorem oe_down (I : oe_I m us nm fd ab ch nx bf sA rA) {i : Nat} (hi : i < 2 ^ 31) : oe_step m (fun post => wpX_down post (oe_s m us nm fd ab ch nx bf sA rA) (nI i)) := by
  obtain ⟨J, O, N, pl, sz, T⟩ := id I
  have hN := oe_N T
  by_cases h : i < sA 0
  · obtain ⟨x, p1, p0, p2⟩ := oe_at T O h
    have b := T.2.1 x p1
    have b40 := oe_nx40 T p1 p0
    by_cases e : nx x = 0
    · refine oe_same I (-4) (fun post hp => ?_)
      unfold wpX_down
      exact oe_look T O p1 p2 ⟨pk_in x 41 (by omega), nm_r (oe_fc b.1) (pk_eq (nx x) 0 (fun _ => hp) (fun z => absurd e z))⟩
    · obtain ⟨q1, q2, q3, q4⟩ := T.2.2.2.2.2.2.1 x p1 p0 e
      obtain ⟨_, a2, a3, _⟩ := T.2.2.2.2.1 x p1 p0
      obtain ⟨sB, rB, O2, _, W1⟩ := oe_unlink (m := m) (us := us) (nm := nm) T p1 p0 J.2.2.1 O
      obtain ⟨sC, rC, pl', sz', T', O', _, _, _, _, _, W2⟩ := oe_relink (m := m) (us := us) (nm := nm) (p := ab (nx x)) (s := nx x) T p1 p0 J.2.2.1 O2 (by rw [q2]; exact ⟨a2, Or.inl a3⟩) (fun z => ⟨⟨q1, Or.inr (by omega)⟩, rfl⟩)
      refine ⟨_, _, _, _, _, _, _, _, _, _, nI (pl' x - 1), ⟨J, O', N, pl', sz', T'⟩, by omega, fun post hp => ?_⟩
      unfold wpX_down
      refine oe_look T O p1 p2 ⟨pk_in x 41 (by omega), nm_r (oe_fc b.1) (pk_eq (nx x) 0 (fun z => absurd z e) (fun _ => ?_))⟩
      refine W1 _ (And.intro (pk_in (nx x) 41 (by omega)) ?_)
      rw [oe_fc b40]
      exact W2 _ (oe_placeOf T' (oe_okS T' O').1 p1 p0 hp)
  · exact oe_same I (-1) (fun post hp => oe_out (m := m) (us := us) (nm := nm) T O (by omega) hi hp)
theorem oe_moveUnder (I : oe_I m us nm fd ab ch nx bf sA rA) {i j : Nat} (hi : i < 2 ^ 31) (hj : j < 2 ^ 31) : oe_step m (fun post => wpX_moveUnder post (oe_s m us nm fd ab ch nx bf sA rA) (nI i) (nI j)) := by
  obtain ⟨J, O, N, pl, sz, T⟩ := id I
  have hN := oe_N T
  have s0 := oe_s0 T O
  by_cases h : i < sA 0
  · by_cases h2 : j < sA 0
    · obtain ⟨x, p1, p0, p2⟩ := oe_at T O h
      obtain ⟨y, y1, y0, y2⟩ := oe_at T O h2
      have b := T.2.1 x p1
      have Z := (oe_okS T O).1
      by_cases e : pl x ≤ pl y ∧ pl y < pl x + sz x
      · refine oe_same I (-4) (fun post hp => ?_)
        unfold wpX_moveUnder
        refine oe_bad hi s0 (fun _ => br_t rfl ?_) (fun z => absurd z (by omega))
        refine oe_bad hj s0 (fun _ => br_t rfl ?_) (fun z => absurd z (by omega))
        refine oe_nodeAt T Z p1 p2 (oe_nodeAt T Z y1 y2 (oe_inBranch T p1 p0 y1 (fun _ _ => br_f (by decide) hp) (fun z => absurd z (by omega))))
      · obtain ⟨vd, hvd⟩ := oe_deepestIn (m := m) (us := us) (nm := nm) (fd := fd) (sA := sA) (rA := rA) T p1 (by rw [(oe_okS T O).1 x p1 p0]; omega)
        by_cases e7 : vd + (nI (oe_dp ab y) + (-1) + 1 - (nI (oe_dp ab x) + (-1))) ≤ 7
        · obtain ⟨sB, rB, O2, _, W1⟩ := oe_unlink (m := m) (us := us) (nm := nm) T p1 p0 J.2.2.1 O
          have dS : oe_cd (oe_D us) pl sz x y := ⟨y1, by omega⟩
          obtain ⟨c, _, c2, _, c4⟩ := oe_lastChild (m := m) (us := us) (nm := nm) (fd := fd) (sA := sB) (rA := rB) (oe_cutT T p1 p0) dS
          obtain ⟨sC, rC, pl', sz', T', O', _, _, _, _, _, W2⟩ := oe_relink (m := m) (us := us) (nm := nm) (s := c) T p1 p0 J.2.2.1 O2 dS (fun z => ⟨(c2 z).1, (c2 z).2.1⟩)
          refine ⟨_, _, _, _, _, _, _, _, _, _, nI (pl' x - 1), ⟨J, O', N, pl', sz', T'⟩, by omega, fun post hp => ?_⟩
          unfold wpX_moveUnder
          refine oe_bad hi s0 (fun _ => br_t rfl ?_) (fun z => absurd z (by omega))
          refine oe_bad hj s0 (fun _ => br_t rfl ?_) (fun z => absurd z (by omega))
          refine oe_nodeAt T Z p1 p2 (oe_nodeAt T Z y1 y2 (oe_inBranch T p1 p0 y1 (fun z z2 => absurd ⟨z, z2⟩ e) (fun _ => br_t rfl ?_)))
          refine oe_levelOf T y1 (oe_levelOf T p1 (nm_e (hvd _ (br_t e7 ?_))))
          exact W1 _ (c4 _ (W2 _ (oe_placeOf T' (oe_okS T' O').1 p1 p0 hp)))
        · refine oe_same I (-4) (fun post hp => ?_)
          unfold wpX_moveUnder
          refine oe_bad hi s0 (fun _ => br_t rfl ?_) (fun z => absurd z (by omega))
          refine oe_bad hj s0 (fun _ => br_t rfl ?_) (fun z => absurd z (by omega))
          refine oe_nodeAt T Z p1 p2 (oe_nodeAt T Z y1 y2 (oe_inBranch T p1 p0 y1 (fun z z2 => absurd ⟨z, z2⟩ e) (fun _ => br_t rfl ?_)))
          exact oe_levelOf T y1 (oe_levelOf T p1 (nm_e (hvd _ (br_f e7 hp))))
    · refine oe_same I (-1) (fun post hp => ?_)
      unfold wpX_moveUnder
      refine oe_bad hi s0 (fun _ => br_t rfl ?_) (fun z => absurd z (by omega))
      exact oe_out (m := m) (us := us) (nm := nm) T O (by omega) hj hp
  · exact oe_same I (-1) (fun post hp => oe_out (m := m) (us := us) (nm := nm) T O (by omega) hi hp)
end
end
section
section
variable {x p : Nat} {m : Nat} {us nm fd : Nat → Nat}
theorem oe_outdent48 (J : oe_J m us nm fd) (hx : oe_D us x) (x0 : x ≠ 0) : ∀ (d : Nat) (ab ch nx bf sA rA pl sz : Nat → Nat) (N s k : Nat), oe_T (oe_D us) 0 N ab ch nx bf pl sz → (∀ y, oe_D us y → oe_ok fd ch nx sA rA y) → ab x = p → (s = 0 → ch x = 0) → (s ≠ 0 → oe_D us s ∧ ab s = x ∧ nx s = 0) → pl p + sz p ≤ pl x + sz x + d → k + d ≤ 40 →
    ∃ (ab' ch' nx' bf' sA' rA' pl' sz' : Nat → Nat) (N' : Nat), oe_T (oe_D us) 0 N' ab' ch' nx' bf' pl' sz' ∧ (∀ y, oe_D us y → oe_ok fd ch' nx' sA' rA' y) ∧ ab' x = p ∧
      ∀ post : Int32 → St1 → Prop, wX_outdent_98 post (nI x) (nI p) (nI m) (oe_f us) (oe_f nm) (oe_f fd) (oe_f ab') (oe_f ch') (oe_f nx') (oe_f bf') (oe_f sA') (oe_f rA') → wX_outdent_48 post (nI x) (nI p) (d + 1) (nI s) (nI (nx x)) (nI k) (nI m) (oe_f us) (oe_f nm) (oe_f fd) (oe_f ab) (oe_f ch) (oe_f nx) (oe_f bf) (oe_f sA) (oe_f rA) := by
  intro d
  induction d with
  | zero =>
    intro ab ch nx bf sA rA pl sz N s k T O h1 h2 h3 h4 h5
    have e : nx x = 0 := Classical.byContradiction fun c0 => by
      obtain ⟨q1, q2, q3, q4⟩ := T.2.2.2.2.2.2.1 x hx x0 c0
      have w := (T.2.2.2.2.1 _ q1 c0).2.2.2
      have b := T.2.1 _ q1
      rw [q2, h1] at w
      omega
    exact ⟨ab, ch, nx, bf, sA, rA, pl, sz, N, T, O, h1, fun post h => pk_le 40 k (fun _ => h) (fun _ => pk_eq (nx x) 0 (fun _ => h) (fun z => absurd e z))⟩
  | succ d ih =>
    intro ab ch nx bf sA rA pl sz N s k T O h1 h2 h3 h4 h5
    by_cases e : nx x = 0
    · exact ⟨ab, ch, nx, bf, sA, rA, pl, sz, N, T, O, h1, fun post h => pk_le 40 k (fun _ => h) (fun _ => pk_eq (nx x) 0 (fun _ => h) (fun z => absurd e z))⟩
    · obtain ⟨q1, q2, q3, q4⟩ := T.2.2.2.2.2.2.1 x hx x0 e
      obtain ⟨_, w2, w3, w4⟩ := T.2.2.2.2.1 _ q1 e
      obtain ⟨_, a2, a3, a4⟩ := T.2.2.2.2.1 x hx x0
      rw [q2, h1] at w2 w3 w4
      rw [h1] at a2 a3 a4
      have b := T.2.1 _ q1
      have bx := T.2.1 x hx
      have xc : x ≠ nx x := fun z => by
        have := congrArg pl z
        omega
      have sF : s ≠ 0 → pl x < pl s ∧ pl s + sz s ≤ pl x + sz x ∧ 1 ≤ sz s := fun z => by
        obtain ⟨g1, g2, g3⟩ := h3 z
        obtain ⟨_, _, g4, g5⟩ := T.2.2.2.2.1 s g1 z
        rw [g2] at g4 g5
        exact ⟨g4, g5, (T.2.1 s g1).2.1⟩
      have xs : x ≠ s := fun z => by
        have z2 : s ≠ 0 := by rw [← z]; exact x0
        have := (sF z2).1
        rw [← z] at this
        omega
      obtain ⟨sB, rB, O2, _, W1⟩ := oe_unlink (m := m) (us := us) (nm := nm) T q1 e J.2.2.1 O
      obtain ⟨sC, rC, pl', sz', T', O', _, L1, P2, S2, S3, W2⟩ := oe_relink (m := m) (us := us) (nm := nm) (p := x) (s := s) T q1 e J.2.2.1 O2 ⟨hx, Or.inl (by omega)⟩ (fun z => ⟨⟨(h3 z).1, Or.inl (by
        have := sF z
        omega)⟩, (h3 z).2.1⟩)
      have cx : oe_cp pl sz (nx x) x = pl x := if_pos (by omega)
      have cp : oe_cp pl sz (nx x) p = pl p := if_pos (by omega)
      have zx : oe_cz pl sz (nx x) x = sz x := if_neg (by omega)
      have zp : oe_cz pl sz (nx x) p = sz p - sz (nx x) := if_pos ⟨by omega, by omega⟩
      have la : pl x < oe_la (oe_cp pl sz (nx x)) (oe_cz pl sz (nx x)) x s := by
        unfold oe_la
        by_cases z : s = 0
        · rw [if_pos z, cx]
          omega
        · rw [if_neg z]
          have := sF z
          have cs : oe_cp pl sz (nx x) s = pl s := if_pos (by omega)
          omega
      have e1 := P2 x ⟨hx, Or.inl (by omega)⟩ (by omega)
      have e2 := P2 p ⟨a2, Or.inl (by omega)⟩ (by omega)
      have e3 := S2 x ⟨hx, Or.inl (by omega)⟩ (by omega) (by omega)
      have e4 := S2 p ⟨a2, Or.inl (by omega)⟩ (by omega) (by omega)
      have cs : nx x ≠ s := fun z => by
        have z2 : s ≠ 0 := by rw [← z]; exact e
        have := (sF z2)
        rw [← z] at this
        omega
      have en : oe_mn ab ch nx bf (nx x) x s x = nx (nx x) := by
        have w := oe_cn1 (nx := nx) (bf := bf) (x := nx x) (by rw [q3]; exact x0)
        rw [q3] at w
        show oe_ln (oe_cn nx bf (nx x)) (nx x) s (oe_mt ab ch nx bf (nx x) x s) x = nx (nx x)
        rw [oe_ln3 xc xs, w]
      have ez : oe_mn ab ch nx bf (nx x) x s (nx x) = 0 := by
        show oe_ln (oe_cn nx bf (nx x)) (nx x) s (oe_mt ab ch nx bf (nx x) x s) (nx x) = 0
        rw [oe_ln1 (Or.inr cs)]
        show oe_lt (oe_cc ab ch nx bf (nx x)) (oe_cn nx bf (nx x)) x s = 0
        unfold oe_lt
        by_cases z : s = 0
        · rw [if_pos z, oe_cc2 (Or.inl (fun z2 => by
            rw [q2, h1] at z2
            have := congrArg pl z2
            omega)), h2 z]
        · rw [if_neg z, oe_cn2 (by rw [q3]; exact xs.symm), (h3 z).2.2]
      obtain ⟨ab2, ch2, nx2, bf2, sA2, rA2, pl2, sz2, N2, T2, O3, g1, g2⟩ := ih (oe_u ab (nx x) x) _ _ _ sC rC pl' sz' N (nx x) (k + 1) T' O' (by rw [oe_un xc]; exact h1) (fun z => absurd z e) (fun _ => ⟨q1, oe_us _ _ _, ez⟩) (by omega) (by omega)
      refine ⟨ab2, ch2, nx2, bf2, sA2, rA2, pl2, sz2, N2, T2, O3, g1, fun post h => ?_⟩
      have w := g2 post h
      rw [en] at w
      exact pk_le 40 k (fun z => absurd z (by omega)) (fun _ => pk_eq (nx x) 0 (fun z => absurd z e) (fun _ => ⟨pk_in (nx x) 41 (by omega), nm_r (oe_fc b.1) (W1 _ (W2 _ (nm_r (nI_1 k) w)))⟩))
theorem oe_outdent {ab ch nx bf sA rA : Nat → Nat} (I : oe_I m us nm fd ab ch nx bf sA rA) {i : Nat} (hi : i < 2 ^ 31) : oe_step m (fun post => wpX_outdent post (oe_s m us nm fd ab ch nx bf sA rA) (nI i)) := by
  obtain ⟨J, O, N, pl, sz, T⟩ := id I
  have hN := oe_N T
  by_cases h : i < sA 0
  · obtain ⟨x, p1, p0, p2⟩ := oe_at T O h
    have b := T.2.1 x p1
    obtain ⟨_, a2, a3, a4⟩ := T.2.2.2.2.1 x p1 p0
    have b2 := T.2.1 _ a2
    by_cases e : ab x = 0
    · refine oe_same I (-4) (fun post hp => ?_)
      unfold wpX_outdent
      exact oe_look T O p1 p2 ⟨pk_in x 41 (by omega), nm_r (oe_fc b.1) (pk_eq (ab x) 0 (fun _ => hp) (fun z => absurd e z))⟩
    · obtain ⟨c, _, c2, c3, c4⟩ := oe_lastChild (m := m) (us := us) (nm := nm) (fd := fd) (sA := sA) (rA := rA) T p1
      obtain ⟨ab2, ch2, nx2, bf2, sA2, rA2, pl2, sz2, N2, T2, O2, g1, g2⟩ := oe_outdent48 (p := ab x) J p1 p0 40 ab ch nx bf sA rA pl sz N c 0 T O rfl c3 (fun z => c2 z) (by omega) (by omega)
      obtain ⟨_, d2, d3, d4⟩ := T2.2.2.2.2.1 x p1 p0
      rw [g1] at d2 d3 d4
      obtain ⟨_, f2, f3, f4⟩ := T2.2.2.2.2.1 _ d2 e
      obtain ⟨sB, rB, O3, _, W1⟩ := oe_unlink (m := m) (us := us) (nm := nm) T2 p1 p0 J.2.2.1 O2
      obtain ⟨sC, rC, pl', sz', T', O', _, _, _, _, _, W2⟩ := oe_relink (m := m) (us := us) (nm := nm) (p := ab2 (ab x)) (s := ab x) T2 p1 p0 J.2.2.1 O3 ⟨f2, Or.inl (by omega)⟩ (fun z => ⟨⟨d2, Or.inl d3⟩, rfl⟩)
      refine ⟨_, _, _, _, _, _, _, _, _, _, nI (oe_dp (oe_u ab2 x (ab2 (ab x))) x) + (-1), ⟨J, O', N2, pl', sz', T'⟩, by omega, fun post hp => ?_⟩
      unfold wpX_outdent
      refine oe_look T O p1 p2 ⟨pk_in x 41 (by omega), nm_r (oe_fc b.1) (pk_eq (ab x) 0 (fun z => absurd z e) (fun _ => c4 _ ⟨pk_in x 41 (by omega), nm_r (oe_fc b.1) ⟨41, g2 post ?_⟩⟩))⟩
      refine W1 _ (And.intro (pk_in (ab x) 41 (by omega)) ?_)
      rw [oe_fc b2.1]
      exact W2 _ (oe_levelOf T' p1 hp)
  · exact oe_same I (-1) (fun post hp => oe_out (m := m) (us := us) (nm := nm) T O (by omega) hi hp)
theorem oe_dissolve47 (J : oe_J m us nm fd) (hx : oe_D us x) (x0 : x ≠ 0) (v : Int32) : ∀ (d : Nat) (ab ch nx bf sA rA pl sz : Nat → Nat) (N s k : Nat), oe_T (oe_D us) 0 N ab ch nx bf pl sz → (∀ y, oe_D us y → oe_ok fd ch nx sA rA y) → ab x = p → oe_D us s → s ≠ 0 → ab s = p → sz x ≤ d + 1 → k + d ≤ 40 →
    ∃ (ab' ch' nx' bf' sA' rA' pl' sz' : Nat → Nat) (N' : Nat), oe_T (oe_D us) 0 N' ab' ch' nx' bf' pl' sz' ∧ (∀ y, oe_D us y → oe_ok fd ch' nx' sA' rA' y) ∧ ch' x = 0 ∧
      ∀ post : Int32 → St1 → Prop, wX_dissolve_98 post (nI x) v (nI m) (oe_f us) (oe_f nm) (oe_f fd) (oe_f ab') (oe_f ch') (oe_f nx') (oe_f bf') (oe_f sA') (oe_f rA') → wX_dissolve_47 post (nI x) v (nI p) (d + 1) (nI s) (nI (ch x)) (nI k) (nI m) (oe_f us) (oe_f nm) (oe_f fd) (oe_f ab) (oe_f ch) (oe_f nx) (oe_f bf) (oe_f sA) (oe_f rA) := by
  intro d
  induction d with
  | zero =>
    intro ab ch nx bf sA rA pl sz N s k T O h1 h2 h3 h4 h5 h6
    have e : ch x = 0 := Classical.byContradiction fun c0 => by
      obtain ⟨q1, q2, q3, q4⟩ := T.2.2.2.1 x hx c0
      have w := (T.2.2.2.2.1 _ q1 c0).2.2.2
      have b := T.2.1 _ q1
      rw [q2] at w
      omega
    exact ⟨ab, ch, nx, bf, sA, rA, pl, sz, N, T, O, e, fun post h => pk_le 40 k (fun _ => h) (fun _ => pk_eq (ch x) 0 (fun _ => h) (fun z => absurd e z))⟩
  | succ d ih =>
    intro ab ch nx bf sA rA pl sz N s k T O h1 h2 h3 h4 h5 h6
    by_cases e : ch x = 0
    · exact ⟨ab, ch, nx, bf, sA, rA, pl, sz, N, T, O, e, fun post h => pk_le 40 k (fun _ => h) (fun _ => pk_eq (ch x) 0 (fun _ => h) (fun z => absurd e z))⟩
    · obtain ⟨q1, q2, q3, q4⟩ := T.2.2.2.1 x hx e
      obtain ⟨_, w2, w3, w4⟩ := T.2.2.2.2.1 _ q1 e
      obtain ⟨_, a2, a3, a4⟩ := T.2.2.2.2.1 x hx x0
      rw [q2] at w2 w3 w4
      rw [h1] at a2 a3 a4
      have b := T.2.1 _ q1
      have bx := T.2.1 x hx
      have bs := T.2.1 s h2
      have xc : x ≠ ch x := fun z => by
        have := congrArg pl z
        omega
      have sF : pl s < pl (ch x) ∨ pl (ch x) + sz (ch x) ≤ pl s := Classical.byContradiction fun hne => by
        have l := oe_lam' T hx h2 (by omega) (by omega)
        rw [h4] at l
        omega
      obtain ⟨sB, rB, O2, _, W1⟩ := oe_unlink (m := m) (us := us) (nm := nm) T q1 e J.2.2.1 O
      obtain ⟨sC, rC, pl', sz', T', O', _, L1, P2, S2, S3, W2⟩ := oe_relink (m := m) (us := us) (nm := nm) (p := p) (s := s) T q1 e J.2.2.1 O2 ⟨a2, Or.inl (by omega)⟩ (fun z => ⟨⟨h2, sF⟩, h4⟩)
      have cx : oe_cp pl sz (ch x) x = pl x := if_pos (by omega)
      have cp : oe_cp pl sz (ch x) p = pl p := if_pos (by omega)
      have zx : oe_cz pl sz (ch x) x = sz x - sz (ch x) := if_pos ⟨by omega, by omega⟩
      have e3 := S3 x ⟨hx, Or.inl (by omega)⟩ (by omega)
      have en : oe_mc ab ch nx bf (ch x) p s x = nx (ch x) := by
        have w := oe_cc1 (ab := ab) (ch := ch) (nx := nx) (bf := bf) (x := ch x) q3
        rw [q2] at w
        show oe_lc (oe_cc ab ch nx bf (ch x)) (ch x) p s x = nx (ch x)
        rw [oe_lc2 (Or.inr h3), w]
      obtain ⟨ab2, ch2, nx2, bf2, sA2, rA2, pl2, sz2, N2, T2, O3, g1, g2⟩ := ih (oe_u ab (ch x) p) _ _ _ sC rC pl' sz' N (ch x) (k + 1) T' O' (by rw [oe_un xc]; exact h1) q1 e (oe_us _ _ _) (by omega) (by omega)
      refine ⟨ab2, ch2, nx2, bf2, sA2, rA2, pl2, sz2, N2, T2, O3, g1, fun post h => ?_⟩
      have w := g2 post h
      rw [en] at w
      exact pk_le 40 k (fun z => absurd z (by omega)) (fun _ => pk_eq (ch x) 0 (fun z => absurd z e) (fun _ => ⟨pk_in (ch x) 41 (by omega), nm_r (oe_fc b.1) (W1 _ (W2 _ (nm_r (nI_1 k) w)))⟩))
theorem oe_dissolve {ab ch nx bf sA rA : Nat → Nat} (I : oe_I m us nm fd ab ch nx bf sA rA) {i : Nat} (hi : i < 2 ^ 31) : oe_step m (fun post => wpX_dissolve post (oe_s m us nm fd ab ch nx bf sA rA) (nI i)) := by
  obtain ⟨J, O, N, pl, sz, T⟩ := id I
  have hN := oe_N T
  by_cases h : i < sA 0
  · obtain ⟨x, p1, p0, p2⟩ := oe_at T O h
    have b := T.2.1 x p1
    have x1 := oe_pl1 T p1 p0
    obtain ⟨ab2, ch2, nx2, bf2, sA2, rA2, pl2, sz2, N2, T2, O2, g1, g2⟩ := oe_dissolve47 (p := ab x) J p1 p0 (nI (sA x) - 1) 39 ab ch nx bf sA rA pl sz N x 0 T O rfl p1 p0 rfl (by omega) (by omega)
    have s1 := T2.2.2.1 x p1 g1
    obtain ⟨sB, rB, O3, _, W1⟩ := oe_unlink (m := m) (us := oe_u us x 0) (nm := nm) T2 p1 p0 J.2.2.1 O2
    have C := oe_cutT T2 p1 p0
    obtain ⟨u1, u0, f1, f0, n1, n2⟩ := id J
    have eD : ∀ y, oe_D (oe_u us x 0) y ↔ oe_cd (oe_D us) pl2 sz2 x y := fun y => by
      constructor
      · intro hy
        have yx : y ≠ x := fun e => by
          rcases hy with q | q
          · exact p0 (by rw [← e]; exact q)
          · rw [e, oe_us] at q
            exact q rfl
        have y1 : oe_D us y := by
          rcases hy with q | q
          · exact Or.inl q
          · rw [oe_un yx] at q
            exact Or.inr q
        have ne : pl2 y ≠ pl2 x := fun z => yx (T2.2.2.2.2.2.2.2.2.2.1 y x y1 p1 z)
        exact ⟨y1, by omega⟩
      · rintro ⟨y1, y2⟩
        have yx : y ≠ x := fun e => by
          rw [e] at y2
          omega
        rcases y1 with q | q
        · exact Or.inl q
        · exact Or.inr (by rw [oe_un yx]; exact q)
    have e : oe_D (oe_u us x 0) = oe_cd (oe_D us) pl2 sz2 x := funext fun y => propext (eD y)
    have le : ∀ y, oe_u us x 0 y ≠ 0 → us y ≠ 0 := fun y q => by
      by_cases z : y = x
      · rw [z, oe_us] at q
        exact absurd rfl q
      · rw [oe_un z] at q
        exact q
    refine ⟨m, oe_u us x 0, nm, fd, ab2, oe_cc ab2 ch2 nx2 bf2 x, oe_cn nx2 bf2 x, oe_cb nx2 bf2 x, sB, rB, nI (sA x) - 1, ⟨⟨?_, ?_, f1, f0, ?_, ?_⟩, ?_, N2 - sz2 x, oe_cp pl2 sz2 x, oe_cz pl2 sz2 x, ?_⟩, by omega, fun post hp => ?_⟩
    · intro y
      by_cases z : y = x
      · rw [z, oe_us]
        omega
      · rw [oe_un z]
        exact u1 y
    · rw [oe_un p0.symm]
      exact u0
    · intro y q
      exact n1 y (le y q)
    · intro y z q r
      exact n2 y z (le y q) (le z r)
    · intro y hy
      exact O3 y ((eD y).mp hy).1
    · rw [e]
      exact C
    · unfold wpX_dissolve
      refine oe_look T O p1 p2 ⟨pk_in x 41 (by omega), nm_r (e' := nI (sA x) - 1) (by rw [oe_fc b.1]) ⟨pk_in x 41 (by omega), nm_r (oe_fc b.1) ⟨pk_in x 41 (by omega), nm_r (oe_fc b.1) ⟨40, g2 post ?_⟩⟩⟩⟩
      exact And.intro (pk_in x 41 (by omega)) (nm_r (oe_fu (v := 0) b.1) (W1 _ hp))
  · exact oe_same I (-1) (fun post hp => oe_out (m := m) (us := us) (nm := nm) T O (by omega) hi hp)
end
end
section
theorem oe_nb0 : vp_nar .boolean (nI 0) = nI 0 := by decide +kernel
theorem oe_nb1 : vp_nar .boolean (nI 1) = nI 1 := by decide +kernel
theorem oe_nb {b : Nat} (h : b ≤ 1) : vp_nar .boolean (nI b) = nI b := by
  rcases Nat.eq_zero_or_pos b with e | e
  · rw [e]
    exact oe_nb0
  · rw [show b = 1 by omega]
    exact oe_nb1
theorem oe_uid {f : Nat → Nat} {k v : Nat} (h : f k = v) : oe_u f k v = f := by
  funext j
  by_cases e : j = k
  · rw [e, oe_us, h]
  · rw [oe_un e]
section
variable {N x : Nat} {ab ch nx bf pl sz : Nat → Nat} {m : Nat} {us nm fd sA rA : Nat → Nat}
/-- the folds are changed at x and above it alone, then the numbers are set right from x on -/
theorem oe_refold (J : oe_J m us nm fd) (T : oe_T (oe_D us) 0 N ab ch nx bf pl sz) (O : ∀ y, oe_D us y → oe_ok fd ch nx sA rA y) (hx : oe_D us x) {fd' : Nat → Nat} (h1 : ∀ y, fd' y ≤ 1) (h0 : fd' 0 = 0) (h : ∀ y, oe_D us y → (pl x < pl y ∨ pl y + sz y ≤ pl x) → fd' y = fd y) :
    ∃ sB rB : Nat → Nat, oe_I m us nm fd' ab ch nx bf sB rB ∧ ∀ post : St1 → Prop, post (oe_s m us nm fd' ab ch nx bf sB rB) → wpX_pullUp post (oe_s m us nm fd' ab ch nx bf sA rA) (nI x) := by
  obtain ⟨sB, rB, g1, _, g3⟩ := oe_pullUp (m := m) (us := us) (nm := nm) (sA := sA) (rA := rA) (fd := fd') T h1 hx (fun y hy na => by
    refine oe_ok_same (O y hy) (h y hy na) rfl rfl rfl (fun c => oe_D us c ∧ c ≠ 0 ∧ (pl x < pl (ab c) ∨ pl (ab c) + sz (ab c) ≤ pl x)) ?_ ?_
    · rintro c ⟨q1, q2, q3⟩ _
      obtain ⟨_, d2, d3, d4⟩ := T.2.2.2.2.1 c q1 q2
      have nac : pl x < pl c ∨ pl c + sz c ≤ pl x := by omega
      refine ⟨h c q1 nac, rfl, rfl, fun e => ?_, fun e => ?_⟩
      · obtain ⟨w1, w2, _⟩ := T.2.2.2.1 c q1 e
        exact ⟨w1, e, by rw [w2]; exact nac⟩
      · obtain ⟨w1, w2, _⟩ := T.2.2.2.2.2.2.1 c q1 q2 e
        exact ⟨w1, e, by rw [w2]; exact q3⟩
    · intro e
      obtain ⟨w1, w2, _⟩ := T.2.2.2.1 y hy e
      exact ⟨w1, e, by rw [w2]; exact na⟩)
  obtain ⟨u1, u0, _, _, n1, n2⟩ := J
  exact ⟨sB, rB, ⟨⟨u1, u0, h1, h0, n1, n2⟩, g1, N, pl, sz, T⟩, g3⟩
theorem oe_fold (I : oe_I m us nm fd ab ch nx bf sA rA) {i : Nat} (hi : i < 2 ^ 31) (on : Int32) : oe_step m (fun post => wpX_fold post (oe_s m us nm fd ab ch nx bf sA rA) (nI i) on) := by
  obtain ⟨J, O, N, pl, sz, T⟩ := id I
  have hN := oe_N T
  by_cases h : i < sA 0
  · obtain ⟨x, p1, p0, p2⟩ := oe_at T O h
    have b := T.2.1 x p1
    have fx := J.2.2.1 x
    have R : ∀ c, c ≤ 1 → ∃ sB rB : Nat → Nat, oe_I m us nm (oe_u fd x c) ab ch nx bf sB rB ∧ ∀ post : St1 → Prop, post (oe_s m us nm (oe_u fd x c) ab ch nx bf sB rB) → wpX_pullUp post (oe_s m us nm (oe_u fd x c) ab ch nx bf sA rA) (nI x) := fun c hc => by
      refine oe_refold J T O p1 (fun y => ?_) ?_ (fun y hy na => oe_un (fun e => ?_))
      · by_cases e : y = x
        · rw [e, oe_us]
          exact hc
        · rw [oe_un e]
          exact J.2.2.1 y
      · rw [oe_un p0.symm]
        exact J.2.2.2.1
      · rw [e] at na
        omega
    have M : ∀ v c, c ≤ 1 → oe_step m (fun post => wX_fold_46 post (nI x) v (nI c) (nI x) (nI m) (oe_f us) (oe_f nm) (oe_f fd) (oe_f ab) (oe_f ch) (oe_f nx) (oe_f bf) (oe_f sA) (oe_f rA)) := fun v c hc => by
      obtain ⟨sB, rB, g1, g2⟩ := R c hc
      exact ⟨_, _, _, _, _, _, _, _, _, _, v, g1, by omega, fun post hp => And.intro (pk_in x 41 (by omega)) (nm_r (by rw [oe_nb hc]; exact oe_fu b.1) (g2 _ hp))⟩
    have F : ∀ v, oe_step m (fun post => wX_fold_30 post on (nI x) v (nI m) (oe_f us) (oe_f nm) (oe_f fd) (oe_f ab) (oe_f ch) (oe_f nx) (oe_f bf) (oe_f sA) (oe_f rA)) := fun v => by
      by_cases e : on = 0
      · obtain ⟨m', us', nm', fd', ab', ch', nx', bf', sA', rA', w, I', h1, h2⟩ := M v 0 (by omega)
        exact ⟨m', us', nm', fd', ab', ch', nx', bf', sA', rA', w, I', h1, fun post hp => br_t e (h2 post hp)⟩
      · obtain ⟨m', us', nm', fd', ab', ch', nx', bf', sA', rA', w, I', h1, h2⟩ := M v 1 (by omega)
        exact ⟨m', us', nm', fd', ab', ch', nx', bf', sA', rA', w, I', h1, fun post hp => br_f e (h2 post hp)⟩
    by_cases e : fd x = 0
    · obtain ⟨m', us', nm', fd', ab', ch', nx', bf', sA', rA', w, I', h1, h2⟩ := F 0
      refine ⟨m', us', nm', fd', ab', ch', nx', bf', sA', rA', w, I', h1, fun post hp => ?_⟩
      unfold wpX_fold
      exact oe_look T O p1 p2 ⟨pk_in x 41 (by omega), pk_eq (fd x) 0 (fun _ => h2 post hp) (fun z => absurd e z) (hx := oe_fc b.1)⟩
    · obtain ⟨m', us', nm', fd', ab', ch', nx', bf', sA', rA', w, I', h1, h2⟩ := F 1
      refine ⟨m', us', nm', fd', ab', ch', nx', bf', sA', rA', w, I', h1, fun post hp => ?_⟩
      unfold wpX_fold
      exact oe_look T O p1 p2 ⟨pk_in x 41 (by omega), pk_eq (fd x) 0 (fun z => absurd z e) (fun _ => h2 post hp) (hx := oe_fc b.1)⟩
  · exact oe_same I (-1) (fun post hp => oe_out (m := m) (us := us) (nm := nm) T O (by omega) hi hp)
theorem oe_reveal29 {D : Nat → Prop} (T : oe_T D 0 N ab ch nx bf pl sz) : ∀ (n at' k : Nat) (cnt : Int32) (fd1 : Nat → Nat), D at' → pl at' + 1 ≤ n → k + pl at' ≤ 40 → pl at' ≤ pl x → pl x < pl at' + sz at' → (∀ y, fd1 y ≤ 1) → fd1 0 = 0 → (∀ y, D y → (pl x < pl y ∨ pl y + sz y ≤ pl x) → fd1 y = fd y) →
    ∃ (fd2 : Nat → Nat) (v : Int32), (∀ y, fd2 y ≤ 1) ∧ fd2 0 = 0 ∧ (∀ y, D y → (pl x < pl y ∨ pl y + sz y ≤ pl x) → fd2 y = fd y) ∧
      ∀ post : Int32 → St1 → Prop, wX_reveal_77 post (nI x) v (nI m) (oe_f us) (oe_f nm) (oe_f fd2) (oe_f ab) (oe_f ch) (oe_f nx) (oe_f bf) (oe_f sA) (oe_f rA) → wX_reveal_29 post (nI x) (nI m) n cnt (nI at') (nI k) (oe_f us) (oe_f nm) (oe_f fd1) (oe_f ab) (oe_f ch) (oe_f nx) (oe_f bf) (oe_f sA) (oe_f rA) := by
  intro n
  induction n with
  | zero => intro at' k cnt fd1 _ h1; omega
  | succ n ih =>
    intro at' k cnt fd1 h1 h2 h3 h4 h5 h6 h7 h8
    have b := T.2.1 at' h1
    by_cases e : at' = 0
    · exact ⟨fd1, cnt, h6, h7, h8, fun post h => pk_le 40 k (fun _ => h) (fun _ => pk_eq at' 0 (fun _ => h) (fun z => absurd e z))⟩
    · have p1 := oe_pl1 T h1 e
      obtain ⟨_, d2, d3, d4⟩ := T.2.2.2.2.1 at' h1 e
      have g6 : ∀ y, oe_u fd1 at' 0 y ≤ 1 := fun y => by
        by_cases z : y = at'
        · rw [z, oe_us]
          omega
        · rw [oe_un z]
          exact h6 y
      have g7 : oe_u fd1 at' 0 0 = 0 := by
        rw [oe_un (fun z => e z.symm)]
        exact h7
      have g8 : ∀ y, D y → (pl x < pl y ∨ pl y + sz y ≤ pl x) → oe_u fd1 at' 0 y = fd y := fun y hy na => by
        rw [oe_un (fun z => by
          rw [z] at na
          omega)]
        exact h8 y hy na
      have f := h6 at'
      by_cases e2 : fd1 at' = 0
      · obtain ⟨fd2, v, q1, q2, q3, q4⟩ := ih (ab at') (k + 1) cnt (oe_u fd1 at' 0) d2 (by omega) (by omega) (by omega) (by omega) g6 g7 g8
        refine ⟨fd2, v, q1, q2, q3, fun post h => pk_le 40 k (fun z => absurd z (by omega)) (fun _ => pk_eq at' 0 (fun z => absurd z e) (fun _ => ⟨pk_in at' 41 (by omega), pk_eq (fd1 at') 0 (fun _ => ?_) (fun z => absurd e2 z) (hx := oe_fc b.1)⟩))⟩
        exact And.intro (pk_in at' 41 (by omega)) (nm_r (oe_fu (v := 0) b.1) ⟨pk_in at' 41 (by omega), nm_r (oe_fc b.1) (nm_r (nI_1 k) (q4 post h))⟩)
      · obtain ⟨fd2, v, q1, q2, q3, q4⟩ := ih (ab at') (k + 1) (cnt + 1) (oe_u fd1 at' 0) d2 (by omega) (by omega) (by omega) (by omega) g6 g7 g8
        refine ⟨fd2, v, q1, q2, q3, fun post h => pk_le 40 k (fun z => absurd z (by omega)) (fun _ => pk_eq at' 0 (fun z => absurd z e) (fun _ => ⟨pk_in at' 41 (by omega), pk_eq (fd1 at') 0 (fun z => absurd z e2) (fun _ => nm_e ?_) (hx := oe_fc b.1)⟩))⟩
        exact And.intro (pk_in at' 41 (by omega)) (nm_r (oe_fu (v := 0) b.1) ⟨pk_in at' 41 (by omega), nm_r (oe_fc b.1) (nm_r (nI_1 k) (q4 post h))⟩)
theorem oe_reveal (I : oe_I m us nm fd ab ch nx bf sA rA) {i : Nat} (hi : i < 2 ^ 31) : oe_step m (fun post => wpX_reveal post (oe_s m us nm fd ab ch nx bf sA rA) (nI i)) := by
  obtain ⟨J, O, N, pl, sz, T⟩ := id I
  have hN := oe_N T
  by_cases h : i < sA 0
  · obtain ⟨x, p1, p0, p2⟩ := oe_at T O h
    have b := T.2.1 x p1
    obtain ⟨_, d2, d3, d4⟩ := T.2.2.2.2.1 x p1 p0
    obtain ⟨fd2, v, q1, q2, q3, q4⟩ := oe_reveal29 (x := x) (m := m) (us := us) (nm := nm) (fd := fd) (sA := sA) (rA := rA) T (pl (ab x) + 1) (ab x) 0 0 fd d2 (by omega) (by omega) (by omega) (by omega) J.2.2.1 J.2.2.2.1 (fun y _ _ => rfl)
    obtain ⟨sB, rB, I', W⟩ := oe_refold J T O p1 q1 q2 q3
    refine ⟨_, _, _, _, _, _, _, _, _, _, v, I', by omega, fun post hp => ?_⟩
    unfold wpX_reveal
    exact oe_look T O p1 p2 ⟨pk_in x 41 (by omega), nm_r (oe_fc b.1) ⟨pl (ab x) + 1, q4 post (W _ hp)⟩⟩
  · exact oe_same I (-1) (fun post hp => oe_out (m := m) (us := us) (nm := nm) T O (by omega) hi hp)
theorem oe_foldLevel23 {D : Nat → Prop} (T : oe_T D 0 N ab ch nx bf pl sz) (A : ∀ y, D y → sA y = oe_one y + oe_rt oe_z ch nx (ch y)) (Z : ∀ y, D y → y ≠ 0 → sA y = sz y) (x1 : Int32) : ∀ (j : Nat) (cnt : Int32) (fd1 rA1 : Nat → Nat), j + 1 ≤ N → (∀ y, fd1 y ≤ 1) → fd1 0 = 0 → (∀ y, D y → j < pl y → oe_ok fd1 ch nx sA rA1 y) →
    ∃ (fd2 rA2 : Nat → Nat) (v : Int32), (∀ y, fd2 y ≤ 1) ∧ fd2 0 = 0 ∧ (∀ y, D y → oe_ok fd2 ch nx sA rA2 y) ∧
      ∀ post : Int32 → St1 → Prop, post v (oe_s m us nm fd2 ab ch nx bf sA rA2) → wX_foldLevel_23 post x1 (j + 1) cnt (nI j + (-1)) (nI m) (oe_f us) (oe_f nm) (oe_f fd1) (oe_f ab) (oe_f ch) (oe_f nx) (oe_f bf) (oe_f sA) (oe_f rA1) := by
  have hN := oe_N T
  intro j
  induction j with
  | zero =>
    intro cnt fd1 rA1 h1 h2 h3 h4
    refine ⟨fd1, oe_u rA1 0 (oe_one 0 + (if fd1 0 = 0 then oe_rt fd1 ch nx (ch 0) else 0)), cnt, h2, h3, fun y hy => ?_, fun post hp => br_t (by decide) ?_⟩
    · by_cases e : y = 0
      · rw [e]
        exact ⟨A 0 T.1.1, oe_us _ _ _⟩
      · have o := h4 y hy (oe_pl1 T hy e)
        exact ⟨o.1, by rw [oe_un e]; exact o.2⟩
    · refine oe_pull T (x := 0) T.1.1 (h2 0) (fun c q1 q2 _ => h4 c q1 (oe_pl1 T q1 q2)) ?_
      rw [oe_uid (A 0 T.1.1)]
      exact hp
  | succ j ih =>
    intro cnt fd1 rA1 h1 h2 h3 h4
    obtain ⟨y, y1, y2⟩ := T.2.2.2.2.2.2.2.2.2.2 (j + 1) (by omega)
    have y0 : y ≠ 0 := fun e => by
      rw [e, T.1.2.1] at y2
      omega
    have b := T.2.1 y y1
    have M : ∀ c, c ≤ 1 → ∃ (fd2 rA2 : Nat → Nat) (v : Int32), (∀ y, fd2 y ≤ 1) ∧ fd2 0 = 0 ∧ (∀ y, D y → oe_ok fd2 ch nx sA rA2 y) ∧
        ∀ post : Int32 → St1 → Prop, post v (oe_s m us nm fd2 ab ch nx bf sA rA2) → wX_foldLevel_69 post (wX_foldLevel_23 post x1 (j + 1)) x1 cnt (nI (j + 1) + (-1)) (nI y) (nI c) (nI y) (nI m) (oe_f us) (oe_f nm) (oe_f fd1) (oe_f ab) (oe_f ch) (oe_f nx) (oe_f bf) (oe_f sA) (oe_f rA1) := by
      intro c hc
      have g2 : ∀ w, oe_u fd1 y c w ≤ 1 := fun w => by
        by_cases z : w = y
        · rw [z, oe_us]
          exact hc
        · rw [oe_un z]
          exact h2 w
      have g3 : oe_u fd1 y c 0 = 0 := by
        rw [oe_un y0.symm]
        exact h3
      have K : ∀ w (rA2 : Nat → Nat), D w → j + 1 < pl w → rA2 w = rA1 w → oe_ok (oe_u fd1 y c) ch nx sA rA2 w := fun w rA2 hw g e2 => by
        have ne : ∀ w, j + 1 < pl w → w ≠ y := fun w g e => by
          rw [e] at g
          omega
        refine oe_ok_same (h4 w hw (by omega)) (oe_un (ne w g)) rfl rfl e2 (fun c => D c ∧ c ≠ 0 ∧ j + 1 < pl c) ?_ ?_
        · rintro q ⟨q1, q2, q3⟩ _
          refine ⟨oe_un (ne q q3), rfl, rfl, fun e => ?_, fun e => ?_⟩
          · obtain ⟨w1, w2, w3, w4⟩ := T.2.2.2.1 q q1 e
            exact ⟨w1, e, by omega⟩
          · obtain ⟨w1, w2, w3, w4⟩ := T.2.2.2.2.2.2.1 q q1 q2 e
            exact ⟨w1, e, by omega⟩
        · intro e
          obtain ⟨w1, w2, w3, w4⟩ := T.2.2.2.1 w hw e
          exact ⟨w1, e, by omega⟩
      have Q : ∀ cnt' : Int32, ∃ (fd2 rA2 : Nat → Nat) (v : Int32), (∀ y, fd2 y ≤ 1) ∧ fd2 0 = 0 ∧ (∀ y, D y → oe_ok fd2 ch nx sA rA2 y) ∧
          ∀ post : Int32 → St1 → Prop, post v (oe_s m us nm fd2 ab ch nx bf sA rA2) → wX_foldLevel_83 post (wX_foldLevel_23 post x1 (j + 1)) x1 cnt' (nI (j + 1) + (-1)) (nI y) (nI m) (oe_f us) (oe_f nm) (oe_f (oe_u fd1 y c)) (oe_f ab) (oe_f ch) (oe_f nx) (oe_f bf) (oe_f sA) (oe_f rA1) := by
        intro cnt'
        obtain ⟨fd2, rA2, v, k1, k2, k3, k4⟩ := ih cnt' (oe_u fd1 y c) (oe_u rA1 y (oe_one y + (if oe_u fd1 y c y = 0 then oe_rt (oe_u fd1 y c) ch nx (ch y) else 0))) (by omega) g2 g3 (fun w hw g => by
          by_cases e : w = y
          · rw [e]
            exact ⟨A y y1, oe_us _ _ _⟩
          · have : pl w ≠ pl y := fun z => e (T.2.2.2.2.2.2.2.2.2.1 w y hw y1 z)
            exact K w _ hw (by omega) (oe_un e))
        refine ⟨fd2, rA2, v, k1, k2, k3, fun post hp => ?_⟩
        refine oe_pull T y1 (g2 y) (fun q q1 q2 q3 => K q rA1 q1 ?_ rfl) ?_
        · have := (T.2.2.2.2.1 q q1 q2).2.2.1
          rw [q3] at this
          omega
        · rw [oe_uid (A y y1)]
          exact nm_r (by rw [pk_m1]) (k4 post hp)
      rcases Nat.eq_zero_or_pos c with c0 | c0
      · obtain ⟨fd2, rA2, v, k1, k2, k3, k4⟩ := Q cnt
        exact ⟨fd2, rA2, v, k1, k2, k3, fun post hp => And.intro (pk_in y 41 (by omega)) (nm_r (by rw [oe_nb hc]; exact oe_fu b.1) ⟨pk_in y 41 (by omega), pk_eq c 0 (fun _ => k4 post hp) (fun z => absurd c0 z) (hx := by rw [oe_fc b.1, oe_us])⟩)⟩
      · obtain ⟨fd2, rA2, v, k1, k2, k3, k4⟩ := Q (cnt + 1)
        exact ⟨fd2, rA2, v, k1, k2, k3, fun post hp => And.intro (pk_in y 41 (by omega)) (nm_r (by rw [oe_nb hc]; exact oe_fu b.1) ⟨pk_in y 41 (by omega), pk_eq c 0 (fun z => absurd z (by omega)) (fun _ => nm_e (k4 post hp)) (hx := by rw [oe_fc b.1, oe_us])⟩)⟩
    have c40 := oe_ch40 T y1
    have neg : ¬ nI (j + 1) + (-1) < 0 := by
      rw [pk_m1]
      exact nI_pos (by omega)
    have NA : ∀ post : Int32 → Prop, post (nI y) → wpX_nodeAt post (oe_s m us nm fd1 ab ch nx bf sA rA1) (nI (j + 1) + (-1)) := fun post hp => by
      rw [pk_m1]
      exact oe_nodeAt T Z y1 y2 hp
    by_cases e : nI (oe_dp ab y) + (-1) = x1
    · by_cases e2 : ch y = 0
      · obtain ⟨fd2, rA2, v, k1, k2, k3, k4⟩ := M 0 (by omega)
        exact ⟨fd2, rA2, v, k1, k2, k3, fun post hp => br_f neg (NA _ (oe_levelOf T y1 (br_t e ⟨pk_in y 41 (by omega), pk_eq (ch y) 0 (fun _ => k4 post hp) (fun z => absurd e2 z) (hx := oe_fc b.1)⟩)))⟩
      · obtain ⟨fd2, rA2, v, k1, k2, k3, k4⟩ := M 1 (by omega)
        exact ⟨fd2, rA2, v, k1, k2, k3, fun post hp => br_f neg (NA _ (oe_levelOf T y1 (br_t e ⟨pk_in y 41 (by omega), pk_eq (ch y) 0 (fun z => absurd z e2) (fun _ => k4 post hp) (hx := oe_fc b.1)⟩)))⟩
    · obtain ⟨fd2, rA2, v, k1, k2, k3, k4⟩ := M 0 (by omega)
      exact ⟨fd2, rA2, v, k1, k2, k3, fun post hp => br_f neg (NA _ (oe_levelOf T y1 (br_f e (k4 post hp))))⟩
theorem oe_foldLevel (I : oe_I m us nm fd ab ch nx bf sA rA) {l : Nat} (hl : l < 8) : oe_step m (fun post => wpX_foldLevel post (oe_s m us nm fd ab ch nx bf sA rA) (nI l)) := by
  obtain ⟨J, O, N, pl, sz, T⟩ := id I
  have hN := oe_N T
  obtain ⟨Z, z⟩ := oe_okS T O
  obtain ⟨fd2, rA2, v, k1, k2, k3, k4⟩ := oe_foldLevel23 (m := m) (us := us) (nm := nm) T (fun y hy => (O y hy).1) Z (nI l) (sA 0) 0 fd rA (by omega) J.2.2.1 J.2.2.2.1 (fun y hy g => by
    have := T.2.1 y hy
    omega)
  obtain ⟨u1, u0, _, _, n1, n2⟩ := id J
  refine ⟨_, _, _, _, _, _, _, _, _, _, v, ⟨⟨u1, u0, k1, k2, n1, n2⟩, k3, N, pl, sz, T⟩, by omega, fun post hp => ?_⟩
  unfold wpX_foldLevel
  exact br_f (nI_pos (by omega)) (br_t (nI_le (b := 7) (by omega) (by omega)) (nm_r (e' := nI (sA 0) + (-1)) (Int32.sub_eq_add_neg _ _) ⟨sA 0 + 1, k4 post hp⟩))
end
end
section
section
variable {ab ch nx bf : Nat → Nat} {x s p b n : Nat}
/-- up, then down: the pointers are what they were -/
theorem oe_ptr (x0 : x ≠ 0) (hs : bf x = s) (s0 : s ≠ 0) (hb : bf s = b) (hn : nx x = n) (hp : ab x = p) (hns : nx s = x) (hb1 : b ≠ 0 → nx b = s) (hb0 : b = 0 → ch p = s) (hn1 : n ≠ 0 → bf n = x) (d1 : x ≠ s) (d2 : b ≠ x) (d3 : b ≠ s) (d4 : n ≠ x) (d5 : n ≠ s) (d6 : n ≠ 0 → n ≠ b) :
    oe_mn ab ch nx bf x p b x = s ∧
    oe_u (oe_u ab x p) x p = ab ∧
    oe_mc (oe_u ab x p) (oe_mc ab ch nx bf x p b) (oe_mn ab ch nx bf x p b) (oe_mb ab ch nx bf x p b) x p s = ch ∧
    oe_mn (oe_u ab x p) (oe_mc ab ch nx bf x p b) (oe_mn ab ch nx bf x p b) (oe_mb ab ch nx bf x p b) x p s = nx ∧
    oe_mb (oe_u ab x p) (oe_mc ab ch nx bf x p b) (oe_mn ab ch nx bf x p b) (oe_mb ab ch nx bf x p b) x p s = bf := by
  have ecc : oe_cc ab ch nx bf x = ch := if_neg (by rw [hs]; exact s0)
  have ecn : oe_cn nx bf x = oe_u nx s n := by
    unfold oe_cn
    rw [hs, hn, if_neg s0]
  have et : oe_mt ab ch nx bf x p b = s := by
    show oe_lt (oe_cc ab ch nx bf x) (oe_cn nx bf x) p b = s
    rw [ecc, ecn]
    unfold oe_lt
    by_cases z : b = 0
    · rw [if_pos z, hb0 z]
    · rw [if_neg z, oe_un d3, hb1 z]
  have e1 : oe_mc ab ch nx bf x p b = oe_lc ch x p b := by
    show oe_lc (oe_cc ab ch nx bf x) x p b = _
    rw [ecc]
  have e2 : oe_mn ab ch nx bf x p b = oe_ln (oe_u nx s n) x b s := by
    show oe_ln (oe_cn nx bf x) x b (oe_mt ab ch nx bf x p b) = _
    rw [ecn, et]
  have e3 : oe_mb ab ch nx bf x p b = oe_lb (oe_cb nx bf x) x b s := by
    show oe_lb (oe_cb nx bf x) x b (oe_mt ab ch nx bf x p b) = _
    rw [et]
  have f1 : oe_mn ab ch nx bf x p b x = s := by
    rw [e2]
    exact oe_ln1 (Or.inr d2.symm)
  have f2 : oe_mb ab ch nx bf x p b x = b := by
    rw [e3]
    exact oe_lb1 (Or.inr d1)
  have f3 : oe_mn ab ch nx bf x p b s = n := by
    rw [e2, oe_ln3 d1.symm d3.symm, oe_us]
  have f4 : oe_u ab x p x = p := oe_us _ _ _
  generalize hc1 : oe_mc ab ch nx bf x p b = ch1 at *
  generalize hn2 : oe_mn ab ch nx bf x p b = nx1 at *
  generalize hb2 : oe_mb ab ch nx bf x p b = bf1 at *
  have gt : oe_mt (oe_u ab x p) ch1 nx1 bf1 x p s = n := by
    show oe_lt (oe_cc (oe_u ab x p) ch1 nx1 bf1 x) (oe_cn nx1 bf1 x) p s = n
    unfold oe_lt
    rw [if_neg s0, oe_cn2 (by rw [f2]; exact d3.symm), f3]
  refine ⟨f1, ?_, ?_, ?_, ?_⟩
  · funext y
    by_cases e : y = x
    · rw [e, oe_us, hp]
    · rw [oe_un e, oe_un e]
  · show oe_lc (oe_cc (oe_u ab x p) ch1 nx1 bf1 x) x p s = ch
    unfold oe_lc oe_cc
    rw [if_neg s0, f2, f1, f4]
    by_cases z : b = 0
    · rw [if_pos z, e1]
      unfold oe_lc
      rw [if_pos z]
      funext y
      by_cases e : y = p
      · rw [e, oe_us, hb0 z]
      · rw [oe_un e, oe_un e]
    · rw [if_neg z, e1]
      exact if_neg z
  · show oe_ln (oe_cn nx1 bf1 x) x s (oe_mt (oe_u ab x p) ch1 nx1 bf1 x p s) = nx
    rw [gt]
    funext y
    by_cases ys : y = s
    · rw [ys, oe_ln2 s0, hns]
    · by_cases yx : y = x
      · rw [yx, oe_ln1 (Or.inr d1), hn]
      · rw [oe_ln3 yx ys]
        by_cases z : b = 0
        · unfold oe_cn
          rw [f2, if_pos z, e2]
          unfold oe_ln
          rw [if_pos z, oe_un yx, oe_un ys]
        · by_cases yb : y = b
          · have w := oe_cn1 (nx := nx1) (bf := bf1) (x := x) (by rw [f2]; exact z)
            rw [f2] at w
            rw [yb, w, f1, hb1 z]
          · rw [oe_cn2 (by rw [f2]; exact yb), e2, oe_ln3 yx yb, oe_un ys]
  · show oe_lb (oe_cb nx1 bf1 x) x s (oe_mt (oe_u ab x p) ch1 nx1 bf1 x p s) = bf
    rw [gt]
    have hcb : ∀ y, y ≠ x → y ≠ n → oe_cb nx1 bf1 x y = bf y := by
      intro y yx yn
      by_cases ys : y = s
      · have w := oe_cb1 (nx := nx1) (bf := bf1) (x := x) (by rw [f1]; exact s0)
        rw [f1] at w
        rw [ys, w, f2, hb]
      · rw [oe_cb2 (by rw [f1]; exact ys), e3, oe_lb3 yx ys, oe_cb2 (by rw [hn]; exact yn)]
    have hcb0 : n = 0 → ∀ y, y ≠ x → oe_cb nx1 bf1 x y = bf y := by
      intro n0 y yx
      by_cases ys : y = s
      · have w := oe_cb1 (nx := nx1) (bf := bf1) (x := x) (by rw [f1]; exact s0)
        rw [f1] at w
        rw [ys, w, f2, hb]
      · rw [oe_cb2 (by rw [f1]; exact ys), e3, oe_lb3 yx ys]
        unfold oe_cb
        rw [hn, if_pos n0]
    funext y
    by_cases yx : y = x
    · rw [yx, oe_lb1 (Or.inr d4.symm), hs]
    · by_cases n0 : n = 0
      · unfold oe_lb
        rw [if_pos n0, oe_un yx]
        exact hcb0 n0 y yx
      · by_cases yn : y = n
        · rw [yn, oe_lb2 n0, hn1 n0]
        · rw [oe_lb3 yx yn]
          exact hcb y yx yn
end
section
variable {ab ch nx bf : Nat → Nat} {m : Nat} {us nm fd sA rA : Nat → Nat}
theorem oe_updown (I : oe_I m us nm fd ab ch nx bf sA rA) {i : Nat} (hi : i < sA 0) :
    (∀ post : Int32 → St1 → Prop, post (-4) (oe_s m us nm fd ab ch nx bf sA rA) → wpX_up post (oe_s m us nm fd ab ch nx bf sA rA) (nI i)) ∨
    ∃ (ab1 ch1 nx1 bf1 sA1 rA1 : Nat → Nat) (u : Nat), u < i ∧ (∀ post : Int32 → St1 → Prop, post (nI u) (oe_s m us nm fd ab1 ch1 nx1 bf1 sA1 rA1) → wpX_up post (oe_s m us nm fd ab ch nx bf sA rA) (nI i)) ∧
      (∀ post : Int32 → St1 → Prop, post (nI i) (oe_s m us nm fd ab ch nx bf sA rA) → wpX_down post (oe_s m us nm fd ab1 ch1 nx1 bf1 sA1 rA1) (nI u)) := by
  obtain ⟨J, O, N, pl, sz, T⟩ := id I
  have hN := oe_N T
  obtain ⟨x, p1, p0, p2⟩ := oe_at T O hi
  have b := T.2.1 x p1
  have b40 := oe_bf40 T p1 p0
  by_cases e : bf x = 0
  · refine Or.inl (fun post hp => ?_)
    unfold wpX_up
    exact oe_look T O p1 p2 ⟨pk_in x 41 (by omega), nm_r (oe_fc b.1) (pk_eq (bf x) 0 (fun _ => hp) (fun z => absurd e z))⟩
  · obtain ⟨q1, q2, q3, q4⟩ := oe_bfF T p1 p0 e
    have b2 := T.2.1 _ q1
    obtain ⟨_, a2, a3, _⟩ := T.2.2.2.2.1 _ q1 e
    have s1 := oe_pl1 T q1 e
    have XN := T.2.2.2.2.2.2.1 x p1 p0
    have BF := oe_bfF T q1 e
    have nn : bf x ≠ nx x := fun z => by
      have := (XN (by rw [← z]; exact e)).2.2.2
      rw [← z] at this
      omega
    obtain ⟨sB, rB, O2, U1, W1⟩ := oe_unlink (m := m) (us := us) (nm := nm) T p1 p0 J.2.2.1 O
    obtain ⟨sC, rC, pl', sz', T', O', U2, L1, _, _, _, W2⟩ := oe_relink (m := m) (us := us) (nm := nm) (p := ab (bf x)) (s := bf (bf x)) T p1 p0 J.2.2.1 O2 ⟨a2, Or.inl (by omega)⟩ (fun z => by
      obtain ⟨w1, w2, w3, w4⟩ := BF z
      exact ⟨⟨w1, Or.inl (by omega)⟩, w3⟩)
    have px : pl' x = pl (bf x) := by
      rw [L1]
      unfold oe_la
      by_cases z : bf (bf x) = 0
      · have w : oe_cp pl sz x (ab (bf x)) = pl (ab (bf x)) := if_pos (by omega)
        rw [if_pos z, w, (oe_bfZ T q1 e z).2]
      · obtain ⟨w1, w2, w3, w4⟩ := BF z
        have w : oe_cp pl sz x (bf (bf x)) = pl (bf (bf x)) := if_pos (by omega)
        have w5 : oe_cz pl sz x (bf (bf x)) = sz (bf (bf x)) := if_neg (by omega)
        rw [if_neg z, w, w5, w4]
    have d1 : x ≠ bf x := fun z => by
      have := congrArg pl z
      omega
    have d2 : bf (bf x) ≠ x := fun z => by
      have := (BF (by rw [z]; exact p0)).2.2.2
      rw [z] at this
      omega
    have d3 : bf (bf x) ≠ bf x := fun z => by
      have := (BF (by rw [z]; exact e)).2.2.2
      rw [z] at this
      omega
    have d4 : nx x ≠ x := fun z => by
      have := (XN (by rw [z]; exact p0)).2.2.2
      rw [z] at this
      omega
    have d6 : nx x ≠ 0 → nx x ≠ bf (bf x) := fun z z2 => by
      have h1 := (XN z).2.2.2
      have h2 := (BF (by rw [← z2]; exact z)).2.2.2
      rw [← z2] at h2
      omega
    obtain ⟨y1, y2, y3, y4, y5⟩ := oe_ptr (ab := ab) (ch := ch) (nx := nx) (bf := bf) (x := x) (s := bf x) (p := ab (bf x)) (b := bf (bf x)) (n := nx x) p0 rfl e rfl rfl q3.symm q2 (fun z => (BF z).2.1) (fun z => (oe_bfZ T q1 e z).1) (fun z => (XN z).2.2.1) d1 d2 d3 d4 nn.symm d6
    refine Or.inr ⟨oe_u ab x (ab (bf x)), oe_mc ab ch nx bf x (ab (bf x)) (bf (bf x)), oe_mn ab ch nx bf x (ab (bf x)) (bf (bf x)), oe_mb ab ch nx bf x (ab (bf x)) (bf (bf x)), sC, rC, pl (bf x) - 1, by omega, fun post hp => ?_, fun post hp => ?_⟩
    · unfold wpX_up
      refine oe_look T O p1 p2 ⟨pk_in x 41 (by omega), nm_r (oe_fc b.1) (pk_eq (bf x) 0 (fun z => absurd z e) (fun _ => ?_))⟩
      refine W1 _ (And.intro (pk_in (bf x) 41 (by omega)) ⟨pk_in (bf x) 41 (by omega), ?_⟩)
      rw [oe_fc b40, oe_fc b40, oe_cb2 nn]
      refine W2 _ (oe_placeOf T' (oe_okS T' O').1 p1 p0 ?_)
      rw [px]
      exact hp
    · have k := T'.2.1 x p1
      have XN' := T'.2.2.2.2.2.2.1 x p1 p0
      rw [y1] at XN'
      obtain ⟨z1, z2, z3, z4⟩ := XN' e
      have ux : oe_u ab x (ab (bf x)) x = ab (bf x) := oe_us _ _ _
      have us' : oe_u ab x (ab (bf x)) (bf x) = ab (bf x) := oe_un d1.symm
      obtain ⟨_, a2', a3', _⟩ := T'.2.2.2.2.1 x p1 p0
      rw [ux] at a2' a3'
      obtain ⟨sD, rD, O3, U3, W3⟩ := oe_unlink (m := m) (us := us) (nm := nm) T' p1 p0 J.2.2.1 O'
      obtain ⟨sE, rE, pl2, sz2, T2, O4, U4, _, _, _, _, W4⟩ := oe_relink (m := m) (us := us) (nm := nm) (p := ab (bf x)) (s := bf x) T' p1 p0 J.2.2.1 O3 ⟨a2', Or.inl a3'⟩ (fun z => ⟨⟨z1, Or.inr (by omega)⟩, us'⟩)
      rw [y3, y4] at O4
      rw [y2, y3, y4, y5] at W4
      have eS : sE = sA := by
        funext y
        by_cases hy : oe_D us y
        · rw [(O4 y hy).1, (O y hy).1]
        · rw [(U4 y hy).1, (U3 y hy).1, (U2 y hy).1, (U1 y hy).1]
      have eR : rE = rA := by
        funext y
        by_cases hy : oe_D us y
        · rw [(O4 y hy).2, (O y hy).2]
        · rw [(U4 y hy).2, (U3 y hy).2, (U2 y hy).2, (U1 y hy).2]
      rw [eS, eR] at W4
      unfold wpX_down
      refine oe_look T' O' p1 (by omega) ⟨pk_in x 41 (by omega), nm_r (e' := nI (bf x)) (by rw [oe_fc b.1, y1]) (pk_eq (bf x) 0 (fun z => absurd z e) (fun _ => ?_))⟩
      refine W3 _ (And.intro (pk_in (bf x) 41 (by omega)) ?_)
      rw [oe_fc b40, us']
      refine W4 _ (oe_placeOf T (oe_okS T O).1 p1 p0 ?_)
      rw [show pl x - 1 = i by omega]
      exact hp
end
end
section
section
variable {ab ch nx bf : Nat → Nat} {m : Nat} {us nm fd sA rA : Nat → Nat}
theorem oe_turn48 (I : oe_I m us nm fd ab ch nx bf sA rA) {o i j : Nat} (ho : o < 32) (hi : i < 2 ^ 31) (hj : j < 2 ^ 31) (x2 : Int32) : oe_step m (fun post => wL_turn_48 post x2 (nI o) (nI i) (nI j) (nI m) (oe_f us) (oe_f nm) (oe_f fd) (oe_f ab) (oe_f ch) (oe_f nx) (oe_f bf) (oe_f sA) (oe_f rA)) := by
  obtain ⟨l3, hl3', e3⟩ := pk_andE (x2 >>> ((12 : Int32) &&& 31)) (m := 3) 2 (by decide)
  obtain ⟨l7, hl7', e7⟩ := pk_andE (x2 >>> ((12 : Int32) &&& 31)) (m := 7) 3 (by decide)
  have hl3 : l3 < 8 := by omega
  have hl7 : l7 < 8 := by omega
  by_cases h0 : o < 8
  · have st := oe_add I hl3
    rw [← e3] at st
    obtain ⟨m', us', nm', fd', ab', ch', nx', bf', sA', rA', w, I', g1, g2⟩ := st
    exact ⟨m', us', nm', fd', ab', ch', nx', bf', sA', rA', w, I', g1, fun post hp => pk_le 8 o (fun z => absurd z (by omega)) (fun _ => g2 _ hp)⟩
  by_cases h1 : o < 11
  · have st := oe_addAfter I hi
    obtain ⟨m', us', nm', fd', ab', ch', nx', bf', sA', rA', w, I', g1, g2⟩ := st
    exact ⟨m', us', nm', fd', ab', ch', nx', bf', sA', rA', w, I', g1, fun post hp => pk_le 8 o (fun _ => pk_le 11 o (fun z => absurd z (by omega)) (fun _ => g2 _ hp)) (fun z => absurd z (by omega))⟩
  by_cases h2 : o < 15
  · have st := oe_addUnder I hi
    obtain ⟨m', us', nm', fd', ab', ch', nx', bf', sA', rA', w, I', g1, g2⟩ := st
    exact ⟨m', us', nm', fd', ab', ch', nx', bf', sA', rA', w, I', g1, fun post hp => pk_le 8 o (fun _ => pk_le 11 o (fun _ => pk_le 15 o (fun z => absurd z (by omega)) (fun _ => g2 _ hp)) (fun z => absurd z (by omega))) (fun z => absurd z (by omega))⟩
  by_cases h3 : o = 15
  · have st := oe_remove I hi
    obtain ⟨m', us', nm', fd', ab', ch', nx', bf', sA', rA', w, I', g1, g2⟩ := st
    exact ⟨m', us', nm', fd', ab', ch', nx', bf', sA', rA', w, I', g1, fun post hp => pk_le 8 o (fun _ => pk_le 11 o (fun _ => pk_le 15 o (fun _ => pk_eq o 15 (fun _ => g2 _ hp) (fun z => absurd (by omega) z)) (fun z => absurd z (by omega))) (fun z => absurd z (by omega))) (fun z => absurd z (by omega))⟩
  by_cases h4 : o = 16
  · have st := oe_dissolve I hi
    obtain ⟨m', us', nm', fd', ab', ch', nx', bf', sA', rA', w, I', g1, g2⟩ := st
    exact ⟨m', us', nm', fd', ab', ch', nx', bf', sA', rA', w, I', g1, fun post hp => pk_le 8 o (fun _ => pk_le 11 o (fun _ => pk_le 15 o (fun _ => pk_eq o 15 (fun z => absurd z (by omega)) (fun _ => pk_eq o 16 (fun _ => g2 _ hp) (fun z => absurd (by omega) z))) (fun z => absurd z (by omega))) (fun z => absurd z (by omega))) (fun z => absurd z (by omega))⟩
  by_cases h5 : o < 19
  · have st := oe_indent I hi
    obtain ⟨m', us', nm', fd', ab', ch', nx', bf', sA', rA', w, I', g1, g2⟩ := st
    exact ⟨m', us', nm', fd', ab', ch', nx', bf', sA', rA', w, I', g1, fun post hp => pk_le 8 o (fun _ => pk_le 11 o (fun _ => pk_le 15 o (fun _ => pk_eq o 15 (fun z => absurd z (by omega)) (fun _ => pk_eq o 16 (fun z => absurd z (by omega)) (fun _ => pk_le 19 o (fun z => absurd z (by omega)) (fun _ => g2 _ hp)))) (fun z => absurd z (by omega))) (fun z => absurd z (by omega))) (fun z => absurd z (by omega))⟩
  by_cases h6 : o < 21
  · have st := oe_outdent I hi
    obtain ⟨m', us', nm', fd', ab', ch', nx', bf', sA', rA', w, I', g1, g2⟩ := st
    exact ⟨m', us', nm', fd', ab', ch', nx', bf', sA', rA', w, I', g1, fun post hp => pk_le 8 o (fun _ => pk_le 11 o (fun _ => pk_le 15 o (fun _ => pk_eq o 15 (fun z => absurd z (by omega)) (fun _ => pk_eq o 16 (fun z => absurd z (by omega)) (fun _ => pk_le 19 o (fun _ => pk_le 21 o (fun z => absurd z (by omega)) (fun _ => g2 _ hp)) (fun z => absurd z (by omega))))) (fun z => absurd z (by omega))) (fun z => absurd z (by omega))) (fun z => absurd z (by omega))⟩
  by_cases h7 : o < 23
  · have st := oe_up I hi
    obtain ⟨m', us', nm', fd', ab', ch', nx', bf', sA', rA', w, I', g1, g2⟩ := st
    exact ⟨m', us', nm', fd', ab', ch', nx', bf', sA', rA', w, I', g1, fun post hp => pk_le 8 o (fun _ => pk_le 11 o (fun _ => pk_le 15 o (fun _ => pk_eq o 15 (fun z => absurd z (by omega)) (fun _ => pk_eq o 16 (fun z => absurd z (by omega)) (fun _ => pk_le 19 o (fun _ => pk_le 21 o (fun _ => pk_le 23 o (fun z => absurd z (by omega)) (fun _ => g2 _ hp)) (fun z => absurd z (by omega))) (fun z => absurd z (by omega))))) (fun z => absurd z (by omega))) (fun z => absurd z (by omega))) (fun z => absurd z (by omega))⟩
  by_cases h8 : o < 25
  · have st := oe_down I hi
    obtain ⟨m', us', nm', fd', ab', ch', nx', bf', sA', rA', w, I', g1, g2⟩ := st
    exact ⟨m', us', nm', fd', ab', ch', nx', bf', sA', rA', w, I', g1, fun post hp => pk_le 8 o (fun _ => pk_le 11 o (fun _ => pk_le 15 o (fun _ => pk_eq o 15 (fun z => absurd z (by omega)) (fun _ => pk_eq o 16 (fun z => absurd z (by omega)) (fun _ => pk_le 19 o (fun _ => pk_le 21 o (fun _ => pk_le 23 o (fun _ => pk_le 25 o (fun z => absurd z (by omega)) (fun _ => g2 _ hp)) (fun z => absurd z (by omega))) (fun z => absurd z (by omega))) (fun z => absurd z (by omega))))) (fun z => absurd z (by omega))) (fun z => absurd z (by omega))) (fun z => absurd z (by omega))⟩
  by_cases h9 : o < 28
  · have st := oe_moveUnder I hi hj
    obtain ⟨m', us', nm', fd', ab', ch', nx', bf', sA', rA', w, I', g1, g2⟩ := st
    exact ⟨m', us', nm', fd', ab', ch', nx', bf', sA', rA', w, I', g1, fun post hp => pk_le 8 o (fun _ => pk_le 11 o (fun _ => pk_le 15 o (fun _ => pk_eq o 15 (fun z => absurd z (by omega)) (fun _ => pk_eq o 16 (fun z => absurd z (by omega)) (fun _ => pk_le 19 o (fun _ => pk_le 21 o (fun _ => pk_le 23 o (fun _ => pk_le 25 o (fun _ => pk_le 28 o (fun z => absurd z (by omega)) (fun _ => g2 _ hp)) (fun z => absurd z (by omega))) (fun z => absurd z (by omega))) (fun z => absurd z (by omega))) (fun z => absurd z (by omega))))) (fun z => absurd z (by omega))) (fun z => absurd z (by omega))) (fun z => absurd z (by omega))⟩
  by_cases h10 : o < 30
  · have st := oe_fold I hi ((x2 >>> ((12 : Int32) &&& 31)) &&& 1)
    obtain ⟨m', us', nm', fd', ab', ch', nx', bf', sA', rA', w, I', g1, g2⟩ := st
    exact ⟨m', us', nm', fd', ab', ch', nx', bf', sA', rA', w, I', g1, fun post hp => pk_le 8 o (fun _ => pk_le 11 o (fun _ => pk_le 15 o (fun _ => pk_eq o 15 (fun z => absurd z (by omega)) (fun _ => pk_eq o 16 (fun z => absurd z (by omega)) (fun _ => pk_le 19 o (fun _ => pk_le 21 o (fun _ => pk_le 23 o (fun _ => pk_le 25 o (fun _ => pk_le 28 o (fun _ => pk_le 30 o (fun z => absurd z (by omega)) (fun _ => g2 _ hp)) (fun z => absurd z (by omega))) (fun z => absurd z (by omega))) (fun z => absurd z (by omega))) (fun z => absurd z (by omega))) (fun z => absurd z (by omega))))) (fun z => absurd z (by omega))) (fun z => absurd z (by omega))) (fun z => absurd z (by omega))⟩
  by_cases h11 : o = 30
  · have st := oe_foldLevel I hl7
    rw [← e7] at st
    obtain ⟨m', us', nm', fd', ab', ch', nx', bf', sA', rA', w, I', g1, g2⟩ := st
    exact ⟨m', us', nm', fd', ab', ch', nx', bf', sA', rA', w, I', g1, fun post hp => pk_le 8 o (fun _ => pk_le 11 o (fun _ => pk_le 15 o (fun _ => pk_eq o 15 (fun z => absurd z (by omega)) (fun _ => pk_eq o 16 (fun z => absurd z (by omega)) (fun _ => pk_le 19 o (fun _ => pk_le 21 o (fun _ => pk_le 23 o (fun _ => pk_le 25 o (fun _ => pk_le 28 o (fun _ => pk_le 30 o (fun _ => pk_eq o 30 (fun _ => g2 _ hp) (fun z => absurd (by omega) z)) (fun z => absurd z (by omega))) (fun z => absurd z (by omega))) (fun z => absurd z (by omega))) (fun z => absurd z (by omega))) (fun z => absurd z (by omega))) (fun z => absurd z (by omega))))) (fun z => absurd z (by omega))) (fun z => absurd z (by omega))) (fun z => absurd z (by omega))⟩
  obtain ⟨m', us', nm', fd', ab', ch', nx', bf', sA', rA', w, I', g1, g2⟩ := oe_reveal I hi
  exact ⟨m', us', nm', fd', ab', ch', nx', bf', sA', rA', w, I', g1, fun post hp => pk_le 8 o (fun _ => pk_le 11 o (fun _ => pk_le 15 o (fun _ => pk_eq o 15 (fun z => absurd z (by omega)) (fun _ => pk_eq o 16 (fun z => absurd z (by omega)) (fun _ => pk_le 19 o (fun _ => pk_le 21 o (fun _ => pk_le 23 o (fun _ => pk_le 25 o (fun _ => pk_le 28 o (fun _ => pk_le 30 o (fun _ => pk_eq o 30 (fun z => absurd z (by omega)) (fun _ => g2 _ hp)) (fun z => absurd z (by omega))) (fun z => absurd z (by omega))) (fun z => absurd z (by omega))) (fun z => absurd z (by omega))) (fun z => absurd z (by omega))) (fun z => absurd z (by omega))))) (fun z => absurd z (by omega))) (fun z => absurd z (by omega))) (fun z => absurd z (by omega))⟩
theorem oe_turn (I : oe_I m us nm fd ab ch nx bf sA rA) (p1 p2 : Int32) : oe_step m (fun post => wpL_turn post (oe_s m us nm fd ab ch nx bf sA rA) p1 p2) := by
  obtain ⟨J, O, N, pl, sz, T⟩ := id I
  have s0 := oe_s0 T O
  obtain ⟨o, ho, eo⟩ := pk_andE p1 (m := 31) 5 (by decide)
  by_cases e : sA 0 = 0
  · obtain ⟨m', us', nm', fd', ab', ch', nx', bf', sA', rA', w, I', g1, g2⟩ := oe_turn48 (i := 0) (j := 0) I ho (by omega) (by omega) p2
    refine ⟨m', us', nm', fd', ab', ch', nx', bf', sA', rA', w, I', g1, fun post hp => ?_⟩
    unfold wpL_turn
    refine nm_r eo ?_
    refine pk_eq (sA 0) 0 (fun _ => ?_) (fun z => absurd e z)
    exact pk_eq (sA 0) 0 (fun _ => g2 post hp) (fun z => absurd e z)
  · obtain ⟨a, ha, ea⟩ := pk_andE p2 (m := 63) 6 (by decide)
    obtain ⟨b, hb, eb⟩ := pk_andE (p2 >>> ((6 : Int32) &&& 31)) (m := 63) 6 (by decide)
    have i1 : a % sA 0 < sA 0 := Nat.mod_lt _ (by omega)
    have i2 : b % sA 0 < sA 0 := Nat.mod_lt _ (by omega)
    obtain ⟨m', us', nm', fd', ab', ch', nx', bf', sA', rA', w, I', g1, g2⟩ := oe_turn48 (i := a % sA 0) (j := b % sA 0) I ho (by omega) (by omega) p2
    refine ⟨m', us', nm', fd', ab', ch', nx', bf', sA', rA', w, I', g1, fun post hp => ?_⟩
    unfold wpL_turn
    refine nm_r eo ?_
    have r1 := pk_rem (a := a) (d := sA 0) (by omega) (by omega) s0
    have r2 := pk_rem (a := b) (d := sA 0) (by omega) (by omega) s0
    have w2 := g2 post hp
    rw [← r1, ← r2, ← ea, ← eb] at w2
    refine pk_eq (sA 0) 0 (fun z => absurd z e) (fun _ => And.intro (nI_ne0 (by omega) s0) ?_)
    exact pk_eq (sA 0) 0 (fun z => absurd z e) (fun _ => And.intro (nI_ne0 (by omega) s0) w2)
end
end
section
section
variable {ab ch nx bf : Nat → Nat} {m : Nat} {us nm fd sA rA : Nat → Nat} {L : Nat} {xs : Nat → Int32} {kc ks : Nat} {post : Int32 → Prop}
theorem oe_equal (I : oe_I m us nm fd ab ch nx bf sA rA) (hp : post 1) : wpL_equal post (nI m, oe_f us, oe_f nm, oe_f fd, oe_f ab, oe_f ch, oe_f nx, oe_f bf, oe_f sA, oe_f rA, nI m, oe_f us, oe_f nm, oe_f fd, oe_f ab, oe_f ch, oe_f nx, oe_f bf, oe_f sA, oe_f rA) := by
  obtain ⟨J, O, N, pl, sz, T⟩ := id I
  have L : ∀ d i, i + d = 41 → wL_equal_2 post (nI m) (oe_f us) (oe_f nm) (oe_f fd) (oe_f ab) (oe_f ch) (oe_f nx) (oe_f bf) (oe_f sA) (oe_f rA) (nI m) (oe_f us) (oe_f nm) (oe_f fd) (oe_f ab) (oe_f ch) (oe_f nx) (oe_f bf) (oe_f sA) (oe_f rA) (d + 1) (nI i) := by
    intro d
    induction d with
    | zero =>
      intro i h
      exact pk_le 41 i (fun _ => br_t rfl (br_t rfl hp)) (fun z => absurd z (by omega))
    | succ d ih =>
      intro i h
      obtain ⟨v1, h1⟩ := oe_name_det (m := m) (us := us) (nm := nm) (i := i) T O (by omega)
      obtain ⟨v2, h2⟩ := oe_level_det (m := m) (us := us) (nm := nm) (i := i) T O (by omega)
      obtain ⟨v3, h3⟩ := oe_rowOf_det (m := m) (us := us) (nm := nm) (i := i) T O J.2.2.1 (by omega)
      obtain ⟨v4, h4⟩ := oe_row_det (m := m) (us := us) (nm := nm) (i := i) T O J.2.2.2.1 J.2.2.1 (by omega)
      exact pk_le 41 i (fun z => absurd z (by omega)) (fun _ => h1 _ (h1 _ (br_t rfl (h2 _ (h2 _ (br_t rfl (h3 _ (h3 _ (br_t rfl (h4 _ (h4 _ (br_t rfl (nm_r (nI_1 i) (ih (i + 1) (by omega)))))))))))))))
  exact ⟨42, L 41 0 (by omega)⟩
theorem oe_law250 (I : oe_I m us nm fd ab ch nx bf sA rA) (hp : post 1) : wL_law_250 post L xs (nI (sA 0)) (nI (rA 0)) kc ks (nI m) (oe_f us) (oe_f nm) (oe_f fd) (oe_f ab) (oe_f ch) (oe_f nx) (oe_f bf) (oe_f sA) (oe_f rA) := by
  obtain ⟨J, O, N, pl, sz, T⟩ := id I
  have r41 := oe_rA41 T T.1.1 (O 0 T.1.1)
  unfold wL_law_250
  refine oe_row_out T O (Nat.le_refl _) (by omega) (br_t rfl ?_)
  refine oe_out (m := m) (us := us) (nm := nm) T O (Nat.le_refl _) (oe_s0 T O) (br_t rfl hp)
theorem oe_law188 (I : oe_I m us nm fd ab ch nx bf sA rA) (hp : post 1) : ∃ n, wL_law_188 post L xs (nI (sA 0)) (nI (rA 0)) kc ks n 0 (nI m) (oe_f us) (oe_f nm) (oe_f fd) (oe_f ab) (oe_f ch) (oe_f nx) (oe_f bf) (oe_f sA) (oe_f rA) (nI m) (oe_f us) (oe_f nm) (oe_f fd) (oe_f ab) (oe_f ch) (oe_f nx) (oe_f bf) (oe_f sA) (oe_f rA) := by
  obtain ⟨J, O, N, pl, sz, T⟩ := id I
  have hN := oe_N T
  have z := (oe_okS T O).2
  have K : ∀ d i, i + d = sA 0 → wL_law_188 post L xs (nI (sA 0)) (nI (rA 0)) kc ks (d + 1) (nI i) (nI m) (oe_f us) (oe_f nm) (oe_f fd) (oe_f ab) (oe_f ch) (oe_f nx) (oe_f bf) (oe_f sA) (oe_f rA) (nI m) (oe_f us) (oe_f nm) (oe_f fd) (oe_f ab) (oe_f ch) (oe_f nx) (oe_f bf) (oe_f sA) (oe_f rA) := by
    intro d
    induction d with
    | zero =>
      intro i h
      exact pk_le 40 i (fun _ => oe_law250 I hp) (fun _ => pk_le (sA 0) i (fun _ => oe_law250 I hp) (fun z => absurd z (by omega)))
    | succ d ih =>
      intro i h
      have w : wL_law_234 post L xs (wL_law_188 post L xs (nI (sA 0)) (nI (rA 0)) kc ks (d + 1)) (nI (sA 0)) (nI (rA 0)) (nI i) kc ks (nI m) (oe_f us) (oe_f nm) (oe_f fd) (oe_f ab) (oe_f ch) (oe_f nx) (oe_f bf) (oe_f sA) (oe_f rA) (nI m) (oe_f us) (oe_f nm) (oe_f fd) (oe_f ab) (oe_f ch) (oe_f nx) (oe_f bf) (oe_f sA) (oe_f rA) := by
        unfold wL_law_234
        exact oe_equal I (br_f (by decide) (nm_r (nI_1 i) (ih (i + 1) (by omega))))
      refine pk_le 40 i (fun z => absurd z (by omega)) (fun _ => pk_le (sA 0) i (fun z => absurd z (by omega)) (fun _ => ?_))
      rcases oe_updown I (i := i) (by omega) with g | ⟨ab1, ch1, nx1, bf1, sA1, rA1, u, g1, g2, g3⟩
      · exact g _ (br_t (by decide) w)
      · exact g2 _ (br_f (nI_pos (by omega)) (pk_le i u (fun z => absurd z (by omega)) (fun _ => g3 _ (br_t rfl w))))
  exact ⟨sA 0 + 1, K (sA 0) 0 (by omega)⟩
theorem oe_law144 (I : oe_I m us nm fd ab ch nx bf sA rA) (hp : post 1) : ∃ n, wL_law_144 post L xs (nI (sA 0)) (nI (rA 0)) kc ks (nI m) (oe_f us) (oe_f nm) (oe_f fd) (oe_f ab) (oe_f ch) (oe_f nx) (oe_f bf) (oe_f sA) (oe_f rA) (nI m) (oe_f us) (oe_f nm) (oe_f fd) (oe_f ab) (oe_f ch) (oe_f nx) (oe_f bf) (oe_f sA) (oe_f rA) n 0 := by
  obtain ⟨J, O, N, pl, sz, T⟩ := id I
  have r41 := oe_rA41 T T.1.1 (O 0 T.1.1)
  have K : ∀ d i, i + d = rA 0 → wL_law_144 post L xs (nI (sA 0)) (nI (rA 0)) kc ks (nI m) (oe_f us) (oe_f nm) (oe_f fd) (oe_f ab) (oe_f ch) (oe_f nx) (oe_f bf) (oe_f sA) (oe_f rA) (nI m) (oe_f us) (oe_f nm) (oe_f fd) (oe_f ab) (oe_f ch) (oe_f nx) (oe_f bf) (oe_f sA) (oe_f rA) (d + 1) (nI i) := by
    intro d
    induction d with
    | zero =>
      intro i h
      exact pk_le 40 i (fun _ => oe_law188 I hp) (fun _ => pk_le (rA 0) i (fun _ => oe_law188 I hp) (fun z => absurd z (by omega)))
    | succ d ih =>
      intro i h
      obtain ⟨c, c1, c2, c3, c4⟩ := oe_row (m := m) (us := us) (nm := nm) (r := i) T O J.2.2.2.1 J.2.2.1 (by omega)
      refine pk_le 40 i (fun _ => oe_law188 I hp) (fun _ => pk_le (rA 0) i (fun z => absurd z (by omega)) (fun _ => c4 _ ?_))
      exact oe_rowOf T O c1 c2 c3 (br_t rfl (nm_r (nI_1 i) (ih (i + 1) (by omega))))
  exact ⟨rA 0 + 1, K (rA 0) 0 (by omega)⟩
theorem oe_law75 (I : oe_I m us nm fd ab ch nx bf sA rA) (hm : m < 2 ^ 31) (hp : post 1) : ∃ n, wL_law_75 post L xs (nI (sA 0)) (nI (rA 0)) kc ks (nI m) (oe_f us) (oe_f nm) (oe_f fd) (oe_f ab) (oe_f ch) (oe_f nx) (oe_f bf) (oe_f sA) (oe_f rA) (nI m) (oe_f us) (oe_f nm) (oe_f fd) (oe_f ab) (oe_f ch) (oe_f nx) (oe_f bf) (oe_f sA) (oe_f rA) n (-1) 0 := by
  obtain ⟨J, O, N, pl, sz, T⟩ := id I
  have hN := oe_N T
  have z := (oe_okS T O).2
  have K : ∀ d i y, i + d = sA 0 → oe_D us y → pl y = i → wL_law_75 post L xs (nI (sA 0)) (nI (rA 0)) kc ks (nI m) (oe_f us) (oe_f nm) (oe_f fd) (oe_f ab) (oe_f ch) (oe_f nx) (oe_f bf) (oe_f sA) (oe_f rA) (nI m) (oe_f us) (oe_f nm) (oe_f fd) (oe_f ab) (oe_f ch) (oe_f nx) (oe_f bf) (oe_f sA) (oe_f rA) (d + 1) (nI (oe_dp ab y) + (-1)) (nI i) := by
    intro d
    induction d with
    | zero =>
      intro i y h h2 h3
      exact pk_le 40 i (fun _ => oe_law144 I hp) (fun _ => pk_le (sA 0) i (fun _ => oe_law144 I hp) (fun z => absurd z (by omega)))
    | succ d ih =>
      intro i y h h2 h3
      obtain ⟨w, w1, w0, w2⟩ := oe_at T O (i := i) (by omega)
      have q := oe_dp_next T h2 w1 (by omega)
      have q2 := oe_dp_eq T w1 w0
      have q3 := oe_dp_le T (pl y) y h2 (Nat.le_refl _)
      have uw : us w ≠ 0 := by
        rcases w1 with g | g
        · exact absurd g w0
        · exact g
      refine pk_le 40 i (fun z => absurd z (by omega)) (fun _ => pk_le (sA 0) i (fun z => absurd z (by omega)) (fun _ => ?_))
      refine oe_level T O w1 w2 ?_
      refine oe_name T O w1 w2 ?_
      refine br_f ?_ (br_f ?_ ?_)
      · rw [sb_m1 (by omega)]
        exact nI_pos (by omega)
      · rw [oe_m2, sb_m1 (by omega)]
        exact nI_nlt (by omega) (by omega)
      · refine oe_place T (oe_okS T O).1 (fun y hy => ⟨Or.inr hy, fun e => hy (by rw [e]; exact J.2.1)⟩) J.1 hm J.2.2.2.2.1 J.2.2.2.2.2 uw ?_
        rw [show pl w - 1 = i by omega]
        exact br_t rfl (nm_r (nI_1 i) (ih (i + 1) w (by omega) w1 w2))
  have k := K (sA 0) 0 0 (by omega) T.1.1 T.1.2.1
  rw [oe_dp0] at k
  exact ⟨sA 0 + 1, k⟩
end
theorem oe_law18 {L : Nat} {xs : Nat → Int32} {kc ks : Nat} {post : Int32 → Prop} (hL : L ≤ 260) (hp : post 1) : ∀ (n k m : Nat) (us nm fd ab ch nx bf sA rA : Nat → Nat), oe_I m us nm fd ab ch nx bf sA rA → L ≤ k + 2 * n → k ≤ 300 → m ≤ k → wL_law_18 post L xs kc ks (n + 1) (nI k) (nI m) (oe_f us) (oe_f nm) (oe_f fd) (oe_f ab) (oe_f ch) (oe_f nx) (oe_f bf) (oe_f sA) (oe_f rA) (nI m) (oe_f us) (oe_f nm) (oe_f fd) (oe_f ab) (oe_f ch) (oe_f nx) (oe_f bf) (oe_f sA) (oe_f rA) := by
  intro n
  induction n with
  | zero =>
    intro k m us nm fd ab ch nx bf sA rA I h1 h2 h3
    exact pk_le L (k + 1) (fun _ => oe_law75 I (by omega) hp) (fun z => absurd z (by omega)) (hy := nI_1 k)
  | succ n ih =>
    intro k m us nm fd ab ch nx bf sA rA I h1 h2 h3
    refine pk_le L (k + 1) (fun _ => oe_law75 I (by omega) hp) (fun z => ⟨pk_in k L (by omega), pk_in (k + 1) L (by omega) (hx := nI_1 k), ?_⟩) (hy := nI_1 k)
    obtain ⟨m', us', nm', fd', ab', ch', nx', bf', sA', rA', w, I', g1, g2⟩ := oe_turn I (xs (nI k).toNatClampNeg) (xs (nI k + 1).toNatClampNeg)
    refine g2 _ (And.intro (pk_in k L (by omega)) ⟨pk_in (k + 1) L (by omega) (hx := nI_1 k), ?_⟩)
    refine g2 _ ?_
    exact nm_r (e' := nI (k + 2)) (nI_add k 2) (ih (k + 2) m' us' nm' fd' ab' ch' nx' bf' sA' rA' I' (by omega) (by omega) (by omega))
/-- an empty outline -/
theorem oe_I0 : oe_I 0 oe_z oe_z oe_z oe_z oe_z oe_z oe_z oe_z oe_z := by
  refine ⟨⟨fun y => Nat.zero_le _, rfl, fun y => Nat.zero_le _, rfl, fun y h => absurd rfl h, fun y z h => absurd rfl h⟩, ?_, 1, fun _ => 0, fun _ => 1, ?_⟩
  · intro y hy
    rcases hy with e | e
    · rw [e]
      unfold oe_ok
      rw [oe_one0, show oe_z 0 = 0 from rfl, oe_rt0, if_pos rfl]
      exact ⟨rfl, rfl⟩
    · exact absurd rfl e
  · have h0 : ∀ y, oe_D oe_z y → y = 0 := fun y hy => by
      rcases hy with e | e
      · exact e
      · exact absurd rfl e
    refine ⟨⟨Or.inl rfl, rfl, rfl⟩, ?_, ?_, ?_, ?_, ?_, ?_, ?_, ?_, ?_, ?_⟩
    · intro y hy
      have := h0 y hy
      exact ⟨by omega, Nat.le_refl _, Nat.le_refl _⟩
    · intro y _ _
      rfl
    · intro y _ h
      exact absurd rfl h
    · intro y hy h
      exact absurd (h0 y hy) h
    · intro y hy h
      exact absurd (h0 y hy) h
    · intro y hy h
      exact absurd (h0 y hy) h
    · intro y hy h
      exact absurd (h0 y hy) h
    · intro y hy h
      exact absurd (h0 y hy) h
    · intro y z hy hz _
      rw [h0 y hy, h0 z hz]
    · intro i hi
      exact ⟨0, Or.inl rfl, show 0 = i by omega⟩
theorem i_vc (xs : Nat → Int32) (L : Nat) (hL : L ≤ 260) : wpL_law (fun r => r = 1) L xs := by
  refine ⟨9, 369, by omega, by omega, ?_⟩
  refine ⟨by omega, by omega, by omega, by omega, by omega, by omega, by omega, by omega, by omega, by omega, by omega, by omega, by omega, by omega, by omega, by omega, by omega, by omega, ?_⟩
  refine And.intro (by omega) (And.intro (by omega) ⟨9, 369, by omega, by omega, ?_⟩)
  refine ⟨by omega, by omega, by omega, by omega, by omega, by omega, by omega, by omega, by omega, by omega, by omega, by omega, by omega, by omega, by omega, by omega, by omega, by omega, ?_⟩
  exact ⟨131, oe_law18 (post := fun r => r = 1) hL rfl 130 0 0 oe_z oe_z oe_z oe_z oe_z oe_z oe_z oe_z oe_z oe_I0 (by omega) (by omega) (by omega)⟩
end
