section
/-! least sums: pairs of numbers, lists of them, ways -/
def fw_le (s t : Nat × Nat) : Prop := s.1 ≤ t.1 ∧ s.2 ≤ t.2
def fw_plus (s t : Nat × Nat) : Nat × Nat := (s.1 + t.1, s.2 + t.2)
def fw_cov (l : List (Nat × Nat)) (s : Nat × Nat) : Prop := ∃ t, t ∈ l ∧ fw_le t s
def fw_sm (s : Nat × Nat) : Prop := s.1 ≤ 18 ∧ s.2 ≤ 18
def fw_asc (l : List (Nat × Nat)) : Prop := l.Pairwise (fun s t => s.1 < t.1)
def fw_okl (l : List (Nat × Nat)) : Prop := fw_asc l ∧ ∀ t, t ∈ l → fw_sm t
theorem fw_le_r (s : Nat × Nat) : fw_le s s := ⟨Nat.le_refl _, Nat.le_refl _⟩
theorem fw_le_t {s t u : Nat × Nat} (h : fw_le s t) (g : fw_le t u) : fw_le s u := ⟨Nat.le_trans h.1 g.1, Nat.le_trans h.2 g.2⟩
theorem fw_le_p {s t u v : Nat × Nat} (h : fw_le s t) (g : fw_le u v) : fw_le (fw_plus s u) (fw_plus t v) := ⟨Nat.add_le_add h.1 g.1, Nat.add_le_add h.2 g.2⟩
theorem fw_le_l (s t : Nat × Nat) : fw_le s (fw_plus s t) := ⟨Nat.le_add_right _ _, Nat.le_add_right _ _⟩
theorem fw_le_2 (s t : Nat × Nat) : fw_le t (fw_plus s t) := ⟨Nat.le_add_left _ _, Nat.le_add_left _ _⟩
theorem fw_plus_a (s t u : Nat × Nat) : fw_plus (fw_plus s t) u = fw_plus s (fw_plus t u) := by
  simp [fw_plus, Nat.add_assoc]
theorem fw_cov_m {l : List (Nat × Nat)} {s t : Nat × Nat} (h : fw_cov l s) (g : fw_le s t) : fw_cov l t := by
  obtain ⟨u, h1, h2⟩ := h
  exact ⟨u, h1, fw_le_t h2 g⟩
theorem fw_len0 (l : List (Nat × Nat)) : ∀ c, fw_asc l → (∀ t, t ∈ l → c ≤ t.1 ∧ t.1 ≤ 18) → c ≤ 19 → l.length + c ≤ 19 := by
  induction l with
  | nil =>
    intro c _ _ h
    simpa using h
  | cons t l ih =>
    intro c h1 h2 h3
    have h1' := List.pairwise_cons.mp h1
    have ht := h2 t (List.mem_cons_self ..)
    have h4 := ih (t.1 + 1) h1'.2 (fun u hu => ⟨h1'.1 u hu, (h2 u (List.mem_cons_of_mem _ hu)).2⟩) (by omega)
    rw [List.length_cons]
    omega
theorem fw_len {l : List (Nat × Nat)} (h : fw_okl l) : l.length ≤ 19 := by
  have := fw_len0 l 0 h.1 (fun t ht => ⟨Nat.zero_le _, (h.2 t ht).1⟩) (by omega)
  omega
theorem fw_asc_ix {l : List (Nat × Nat)} (h : fw_asc l) {i j : Nat} {s t : Nat × Nat} (hij : i < j) (hs : l[i]? = some s) (ht : l[j]? = some t) : s.1 < t.1 := by
  obtain ⟨hi, rfl⟩ := List.getElem?_eq_some_iff.mp hs
  obtain ⟨hj, rfl⟩ := List.getElem?_eq_some_iff.mp ht
  exact List.pairwise_iff_getElem.mp h i j hi hj hij
theorem fw_ix {l : List (Nat × Nat)} {i : Nat} (h : i < l.length) : ∃ t, l[i]? = some t := ⟨l[i], List.getElem?_eq_getElem h⟩
theorem fw_ok1 : fw_okl [(0, 0)] := by
  refine ⟨List.pairwise_singleton _ _, fun t ht => ?_⟩
  rw [List.mem_singleton] at ht
  rw [ht]
  exact ⟨Nat.zero_le _, Nat.zero_le _⟩
theorem fw_ok0 : fw_okl [] := ⟨List.Pairwise.nil, fun t ht => absurd ht (List.not_mem_nil)⟩

/-! ways: w holds the places between the ends -/
def fw_pth (E : Nat → Nat → Nat × Nat → Prop) : List Nat → Nat → Nat → Nat × Nat → Prop
  | [], i, j, s => E i j s
  | v :: w, i, j, s => ∃ s1 s2 : Nat × Nat, E i v s1 ∧ fw_pth E w v j s2 ∧ s = fw_plus s1 s2
theorem fw_pth_app {E : Nat → Nat → Nat × Nat → Prop} (w1 w2 : List Nat) (v j : Nat) (s2 : Nat × Nat) (h2 : fw_pth E w2 v j s2) : ∀ (i : Nat) (s1 : Nat × Nat), fw_pth E w1 i v s1 → fw_pth E (w1 ++ v :: w2) i j (fw_plus s1 s2) := by
  induction w1 with
  | nil => exact fun i s1 h => ⟨s1, s2, h, h2, rfl⟩
  | cons x w1 ih =>
    intro i s1 h
    obtain ⟨t1, t2, e1, e2, e3⟩ := h
    refine ⟨t1, fw_plus t2 s2, e1, ih x t2 e2, ?_⟩
    rw [e3, fw_plus_a]
theorem fw_pth_spl {E : Nat → Nat → Nat × Nat → Prop} (w1 w2 : List Nat) (v j : Nat) : ∀ (i : Nat) (s : Nat × Nat), fw_pth E (w1 ++ v :: w2) i j s → ∃ s1 s2, fw_pth E w1 i v s1 ∧ fw_pth E w2 v j s2 ∧ s = fw_plus s1 s2 := by
  induction w1 with
  | nil =>
    intro i s h
    obtain ⟨t1, t2, e1, e2, e3⟩ := h
    exact ⟨t1, t2, e1, e2, e3⟩
  | cons x w1 ih =>
    intro i s h
    obtain ⟨t1, t2, e1, e2, e3⟩ := h
    obtain ⟨u1, u2, f1, f2, f3⟩ := ih x t2 e2
    refine ⟨fw_plus t1 u1, u2, ⟨t1, u1, e1, f1, rfl⟩, f2, ?_⟩
    rw [e3, f3, fw_plus_a]
theorem fw_pth_bd {E : Nat → Nat → Nat × Nat → Prop} (hE : ∀ i j s, E i j s → s.1 ≤ 3 ∧ s.2 ≤ 3) (w : List Nat) (j : Nat) : ∀ (i : Nat) (s : Nat × Nat), fw_pth E w i j s → s.1 ≤ 3 * (w.length + 1) ∧ s.2 ≤ 3 * (w.length + 1) := by
  induction w with
  | nil =>
    intro i s h
    have := hE i j s h
    simp only [List.length_nil]
    omega
  | cons x w ih =>
    intro i s h
    obtain ⟨t1, t2, e1, e2, e3⟩ := h
    have h1 := hE i x t1 e1
    have h2 := ih x t2 e2
    rw [e3]
    simp only [List.length_cons, fw_plus]
    omega
/-- a way whose inner places are at most k goes below k, or is no less than two such ways joined at k -/
theorem fw_pth_k {E : Nat → Nat → Nat × Nat → Prop} (k j : Nat) (w : List Nat) : ∀ (i : Nat) (s : Nat × Nat), fw_pth E w i j s → (∀ v, v ∈ w → v < k + 1) →
    (∀ v, v ∈ w → v < k) ∨ ∃ p q s1 s2, fw_pth E p i k s1 ∧ (∀ v, v ∈ p → v < k) ∧ fw_pth E q k j s2 ∧ (∀ v, v ∈ q → v < k) ∧ fw_le (fw_plus s1 s2) s := by
  induction w with
  | nil => exact fun i s h _ => Or.inl (fun v hv => absurd hv List.not_mem_nil)
  | cons x w ih =>
    intro i s h hb
    obtain ⟨t1, t2, e1, e2, e3⟩ := h
    have hx := hb x (List.mem_cons_self ..)
    have hw : ∀ v, v ∈ w → v < k + 1 := fun v hv => hb v (List.mem_cons_of_mem _ hv)
    rcases ih x t2 e2 hw with g | ⟨p, q, s1, s2, g1, g2, g3, g4, g5⟩
    · by_cases hxk : x < k
      · left
        intro v hv
        rcases List.mem_cons.mp hv with rfl | hv
        · exact hxk
        · exact g v hv
      · have hxe : x = k := by omega
        subst hxe
        exact Or.inr ⟨[], w, t1, t2, e1, fun v hv => absurd hv List.not_mem_nil, e2, g, by rw [e3]; exact fw_le_r _⟩
    · by_cases hxk : x < k
      · refine Or.inr ⟨x :: p, q, fw_plus t1 s1, s2, ⟨t1, s1, e1, g1, rfl⟩, ?_, g3, g4, ?_⟩
        · intro v hv
          rcases List.mem_cons.mp hv with rfl | hv
          · exact hxk
          · exact g2 v hv
        · rw [e3, fw_plus_a]
          exact fw_le_p (fw_le_r _) g5
      · have hxe : x = k := by omega
        subst hxe
        refine Or.inr ⟨[], q, t1, s2, e1, fun v hv => absurd hv List.not_mem_nil, g3, g4, ?_⟩
        rw [e3]
        exact fw_le_p (fw_le_r _) (fw_le_t (fw_le_2 s1 s2) g5)
/-- every sum of the list is that of a way without rings, inner places below k -/
def fw_snd (E : Nat → Nat → Nat × Nat → Prop) (k i j : Nat) (l : List (Nat × Nat)) : Prop := ∀ s, s ∈ l → ∃ w : List Nat, fw_pth E w i j s ∧ w.Nodup ∧ ∀ v, v ∈ w → v < k ∧ v ≠ i ∧ v ≠ j
def fw_cmp (E : Nat → Nat → Nat × Nat → Prop) (k i j : Nat) (l : List (Nat × Nat)) : Prop := ∀ w s, fw_pth E w i j s → (∀ v, v ∈ w → v < k) → fw_cov l s
theorem fw_snd_m {E : Nat → Nat → Nat × Nat → Prop} {k i j : Nat} {l : List (Nat × Nat)} (h : fw_snd E k i j l) : fw_snd E (k + 1) i j l := by
  intro s hs
  obtain ⟨w, h1, h2, h3⟩ := h s hs
  exact ⟨w, h1, h2, fun v hv => ⟨Nat.lt_succ_of_lt (h3 v hv).1, (h3 v hv).2⟩⟩
theorem fw_snd_sm {E : Nat → Nat → Nat × Nat → Prop} (hE : ∀ i j s, E i j s → s.1 ≤ 3 ∧ s.2 ≤ 3) {k i j : Nat} (hk : k ≤ 7) (hi : i < 7) (hj : j < 7) (hij : i ≠ j) {s : Nat × Nat} {w : List Nat} (h1 : fw_pth E w i j s) (h2 : w.Nodup) (h3 : ∀ v, v ∈ w → v < k ∧ v ≠ i ∧ v ≠ j) : fw_sm s := by
  have hN : (i :: j :: w).Nodup := by
    refine List.nodup_cons.mpr ⟨?_, List.nodup_cons.mpr ⟨fun h => (h3 j h).2.2 rfl, h2⟩⟩
    intro h
    rcases List.mem_cons.mp h with h | h
    · exact hij h
    · exact (h3 i h).2.1 rfl
  have hS : (i :: j :: w) ⊆ List.range 7 := by
    intro v hv
    rw [List.mem_range]
    rcases List.mem_cons.mp hv with h | h
    · omega
    · rcases List.mem_cons.mp h with h | h
      · omega
      · have := (h3 v h).1
        omega
  have hL := List.Nodup.length_le_of_subset hN hS
  simp only [List.length_cons, List.length_range] at hL
  have hB := fw_pth_bd hE w j i s h1
  exact ⟨by omega, by omega⟩
/-- two sums joined at k: there is a sum at most theirs, or the joined way has no rings -/
theorem fw_cand {E : Nat → Nat → Nat × Nat → Prop} {k i j : Nat} (hik : i ≠ k) (hjk : j ≠ k) {F G l : List (Nat × Nat)}
    (hF : fw_snd E k i k F) (hG : fw_snd E k k j G) (hl : fw_cmp E k i j l) {s t : Nat × Nat} (hs : s ∈ F) (ht : t ∈ G) :
    fw_cov l (fw_plus s t) ∨ ∃ w : List Nat, fw_pth E w i j (fw_plus s t) ∧ w.Nodup ∧ ∀ v, v ∈ w → v < k + 1 ∧ v ≠ i ∧ v ≠ j := by
  obtain ⟨w1, a1, a2, a3⟩ := hF s hs
  obtain ⟨w2, b1, b2, b3⟩ := hG t ht
  by_cases c1 : j ∈ w1
  · left
    obtain ⟨p, q, e⟩ := List.append_of_mem c1
    rw [e] at a1
    obtain ⟨s1, s2, f1, f2, f3⟩ := fw_pth_spl p q j k i s a1
    refine fw_cov_m (hl p s1 f1 (fun v hv => (a3 v ?_).1)) ?_
    · rw [e]
      exact List.mem_append_left _ hv
    · rw [f3]
      exact fw_le_t (fw_le_l s1 s2) (fw_le_l _ _)
  by_cases c2 : i ∈ w2
  · left
    obtain ⟨p, q, e⟩ := List.append_of_mem c2
    rw [e] at b1
    obtain ⟨s1, s2, f1, f2, f3⟩ := fw_pth_spl p q i j k t b1
    refine fw_cov_m (hl q s2 f2 (fun v hv => (b3 v ?_).1)) ?_
    · rw [e]
      exact List.mem_append_right _ (List.mem_cons_of_mem _ hv)
    · rw [f3]
      exact fw_le_t (fw_le_2 s1 s2) (fw_le_2 _ _)
  by_cases c3 : ∃ v, v ∈ w1 ∧ v ∈ w2
  · left
    obtain ⟨v, c31, c32⟩ := c3
    obtain ⟨p, q, e⟩ := List.append_of_mem c31
    obtain ⟨p', q', e'⟩ := List.append_of_mem c32
    have hv := (a3 v c31).1
    have a1' := a1
    have b1' := b1
    rw [e] at a1'
    rw [e'] at b1'
    obtain ⟨s1, s2, f1, f2, f3⟩ := fw_pth_spl p q v k i s a1'
    obtain ⟨t1, t2, g1, g2, g3⟩ := fw_pth_spl p' q' v j k t b1'
    refine fw_cov_m (hl _ _ (fw_pth_app p q' v j t2 g2 i s1 f1) ?_) ?_
    · intro x hx
      rcases List.mem_append.mp hx with hx | hx
      · refine (a3 x ?_).1
        rw [e]
        exact List.mem_append_left _ hx
      · rcases List.mem_cons.mp hx with hx | hx
        · rw [hx]
          exact hv
        · refine (b3 x ?_).1
          rw [e']
          exact List.mem_append_right _ (List.mem_cons_of_mem _ hx)
    · rw [f3, g3]
      exact fw_le_p (fw_le_l _ _) (fw_le_2 _ _)
  · right
    refine ⟨w1 ++ k :: w2, fw_pth_app w1 w2 k j t b1 i s a1, ?_, ?_⟩
    · refine List.nodup_append.mpr ⟨a2, List.nodup_cons.mpr ⟨fun h => (b3 k h).2.1 rfl, b2⟩, ?_⟩
      intro a ha b hb hab
      rcases List.mem_cons.mp hb with h | h
      · exact (a3 a ha).2.2 (by rw [hab, h])
      · exact c3 ⟨a, ha, by rw [hab]; exact h⟩
    · intro v hv
      rcases List.mem_append.mp hv with h | h
      · have := a3 v h
        exact ⟨by omega, this.2.1, fun z => c1 (by rw [← z]; exact h)⟩
      · rcases List.mem_cons.mp h with h | h
        · exact ⟨by omega, by omega, by omega⟩
        · have := b3 v h
          exact ⟨by omega, fun z => c2 (by rw [← z]; exact h), this.2.2⟩
/-- the list l of the way i, j after all joined sums over k have been offered -/
def fw_J (l0 F G : List (Nat × Nat)) (x y : Nat) (l : List (Nat × Nat)) : Prop :=
  (∀ t, t ∈ l → t ∈ l0 ∨ ∃ s u, s ∈ F ∧ u ∈ G ∧ ¬ fw_cov l0 (fw_plus s u) ∧ t = fw_plus s u) ∧ (∀ t, fw_cov l0 t → fw_cov l t) ∧
  (∀ (a b : Nat) (s u : Nat × Nat), F[a]? = some s → G[b]? = some u → (a < x ∨ a = x ∧ b < y) → fw_cov l (fw_plus s u))
theorem fw_J_end {E : Nat → Nat → Nat × Nat → Prop} {k i j : Nat} (hik : i ≠ k) (hjk : j ≠ k) {F G l0 l : List (Nat × Nat)}
    (hF : fw_snd E k i k F) (hG : fw_snd E k k j G) (hFc : fw_cmp E k i k F) (hGc : fw_cmp E k k j G) (hl : fw_snd E k i j l0) (hlc : fw_cmp E k i j l0)
    (hJ : fw_J l0 F G F.length 0 l) : fw_snd E (k + 1) i j l ∧ fw_cmp E (k + 1) i j l := by
  obtain ⟨j1, j2, j3⟩ := hJ
  constructor
  · intro s hs
    rcases j1 s hs with h | ⟨a, b, ha, hb, hn, e⟩
    · exact fw_snd_m hl s h
    · rw [e]
      rcases fw_cand hik hjk hF hG hlc ha hb with h | h
      · exact absurd h hn
      · exact h
  · intro w s hw hb
    rcases fw_pth_k k j w i s hw hb with h | ⟨p, q, s1, s2, g1, g2, g3, g4, g5⟩
    · exact j2 _ (hlc w s hw h)
    · obtain ⟨a, ha1, ha2⟩ := hFc p s1 g1 g2
      obtain ⟨b, hb1, hb2⟩ := hGc q s2 g3 g4
      obtain ⟨n, hn⟩ := List.mem_iff_getElem?.mp ha1
      obtain ⟨m, hm⟩ := List.mem_iff_getElem?.mp hb1
      have hnl : n < F.length := (List.getElem?_eq_some_iff.mp hn).1
      exact fw_cov_m (j3 n m a b hn hm (Or.inl hnl)) (fw_le_t (fw_le_p ha2 hb2) g5)
theorem fw_cmp_i {E : Nat → Nat → Nat × Nat → Prop} {k j : Nat} {l : List (Nat × Nat)} (h : fw_cmp E k k j l) : fw_cmp E (k + 1) k j l := by
  intro w s hw hb
  rcases fw_pth_k k j w k s hw hb with g | ⟨p, q, s1, s2, g1, g2, g3, g4, g5⟩
  · exact h w s hw g
  · exact fw_cov_m (h q s2 g3 g4) (fw_le_t (fw_le_2 s1 s2) g5)
theorem fw_cmp_j {E : Nat → Nat → Nat × Nat → Prop} {k i : Nat} {l : List (Nat × Nat)} (h : fw_cmp E k i k l) : fw_cmp E (k + 1) i k l := by
  intro w s hw hb
  rcases fw_pth_k k k w i s hw hb with g | ⟨p, q, s1, s2, g1, g2, g3, g4, g5⟩
  · exact h w s hw g
  · exact fw_cov_m (h p s1 g1 g2) (fw_le_t (fw_le_l s1 s2) g5)
/-- a row of the table at stage k -/
def fw_gr (E : Nat → Nat → Nat × Nat → Prop) (k r : Nat) (l : List (Nat × Nat)) : Prop :=
  (r % 8 = 0 → l = [(0, 0)]) ∧ (¬ r % 8 = 0 → fw_snd E k (r / 7) (r % 7) l ∧ fw_cmp E k (r / 7) (r % 7) l)
end
section
/-! addSum -/
def fw_cd (s : Nat × Nat) : Nat := 64 * s.1 + s.2
def fw_hl (a : Nat → Int32) (o : Nat) (l : List (Nat × Nat)) : Prop := ∀ (j : Nat) (e : Nat × Nat), l[j]? = some e → a (o + j) = nI (fw_cd e)
def fw_rw (a7 a8 : Nat → Int32) (R : Nat → List (Nat × Nat)) : Prop := ∀ r, r < 49 → fw_okl (R r) ∧ a7 r = nI (R r).length ∧ fw_hl a8 (19 * r) (R r)
def fw_ins (l : List (Nat × Nat)) (s : Nat × Nat) (l' : List (Nat × Nat)) : Prop := (∀ t, t ∈ l' → t ∈ l ∨ t = s ∧ ¬ fw_cov l s) ∧ (∀ t, fw_cov l t → fw_cov l' t) ∧ fw_cov l' s
def fw_put (R : Nat → List (Nat × Nat)) (r : Nat) (l : List (Nat × Nat)) : Nat → List (Nat × Nat) := fun x => if x = r then l else R x
theorem fw_put_s {R : Nat → List (Nat × Nat)} {r : Nat} {l : List (Nat × Nat)} : fw_put R r l r = l := by
  simp [fw_put]
theorem fw_put_n {R : Nat → List (Nat × Nat)} {r x : Nat} {l : List (Nat × Nat)} (h : x ≠ r) : fw_put R r l x = R x := by
  simp [fw_put, h]
theorem fw_hi {s : Nat × Nat} (h1 : s.1 < 1000) (h2 : s.2 < 64) : nI (fw_cd s) >>> ((6 : Int32) &&& 31) = nI s.1 := by
  unfold fw_cd
  rw [pk_shrN (by omega) _ 6 (by decide), show (64 * s.1 + s.2) / 2 ^ 6 = s.1 by omega]
theorem fw_lo {s : Nat × Nat} (h1 : s.1 < 1000) (h2 : s.2 < 64) : nI (fw_cd s) &&& 63 = nI s.2 := by
  unfold fw_cd
  rw [pk_andN (by omega) 6 (by decide), show (64 * s.1 + s.2) % 2 ^ 6 = s.2 by omega]
theorem fw_hl_push {a : Nat → Int32} {l : List (Nat × Nat)} {e : Nat × Nat} {k : Nat} {x : Int32} (hk : k = l.length) (hx : x = nI (fw_cd e)) (h : fw_hl a 0 l) : fw_hl (upd a k x) 0 (l ++ [e]) := by
  intro j f hj
  rw [Nat.zero_add]
  by_cases hjl : j < l.length
  · rw [List.getElem?_append_left hjl] at hj
    rw [pk_un (by omega)]
    have := h j f hj
    rw [Nat.zero_add] at this
    exact this
  · have hj' : j < (l ++ [e]).length := (List.getElem?_eq_some_iff.mp hj).1
    rw [List.length_append, List.length_singleton] at hj'
    have hje : j = l.length := by omega
    rw [hje, List.getElem?_concat_length] at hj
    have hfe : e = f := Option.some.inj hj
    rw [hje, ← hk, pk_us, hx, hfe]
/-- the part of the list behind i is still to come; L is gathered; pb: s stands in it -/
def fw_D (l : List (Nat × Nat)) (s : Nat × Nat) (i : Nat) (pb : Bool) (L : List (Nat × Nat)) : Prop :=
  (∀ (j : Nat) t, j < i → l[j]? = some t → ¬ fw_le t s) ∧ fw_asc L ∧
  (∀ t, t ∈ L → (∃ j : Nat, j < i ∧ l[j]? = some t) ∨ pb = true ∧ t = s) ∧
  (∀ t, t ∈ L → ∀ (j : Nat) u, i ≤ j → l[j]? = some u → t.1 < u.1) ∧
  (pb = false → ∀ t, t ∈ L → t.1 < s.1) ∧
  (∀ (j : Nat) t, j < i → l[j]? = some t → t ∈ L ∨ fw_le s t) ∧
  (pb = true → s ∈ L) ∧ L.length ≤ i + (if pb then 1 else 0)
theorem fw_asc_push {L : List (Nat × Nat)} {s : Nat × Nat} (h : fw_asc L) (g : ∀ t, t ∈ L → t.1 < s.1) : fw_asc (L ++ [s]) := by
  refine List.pairwise_append.mpr ⟨h, List.pairwise_singleton _ _, fun a ha b hb => ?_⟩
  rw [List.mem_singleton] at hb
  rw [hb]
  exact g a ha
theorem fw_mem_push {L : List (Nat × Nat)} {s t : Nat × Nat} (h : t ∈ L ++ [s]) : t ∈ L ∨ t = s := by
  rcases List.mem_append.mp h with h | h
  · exact Or.inl h
  · exact Or.inr (List.mem_singleton.mp h)
theorem fw_D_0 (l : List (Nat × Nat)) (s : Nat × Nat) : fw_D l s 0 false [] :=
  ⟨fun j t h => absurd h (by omega), List.Pairwise.nil, fun t h => absurd h List.not_mem_nil, fun t h => absurd h List.not_mem_nil, fun _ t h => absurd h List.not_mem_nil, fun j t h => absurd h (by omega), fun h => absurd h (by decide), by simp⟩
theorem fw_D_place {l : List (Nat × Nat)} {s t : Nat × Nat} {i : Nat} {L : List (Nat × Nat)} (hl : fw_asc l) (h : fw_D l s i false L) (ht : l[i]? = some t) (hs : s.1 < t.1) : fw_D l s i true (L ++ [s]) := by
  obtain ⟨d1, d2, d3, d4, d5, d6, d7, d8⟩ := h
  refine ⟨d1, fw_asc_push d2 (d5 rfl), ?_, ?_, fun z => absurd z (by decide), ?_, fun _ => List.mem_append_right _ (List.mem_singleton.mpr rfl), ?_⟩
  · intro u hu
    rcases fw_mem_push hu with hu | hu
    · rcases d3 u hu with z | z
      · exact Or.inl z
      · exact absurd z.1 (by decide)
    · exact Or.inr ⟨rfl, hu⟩
  · intro u hu j v hj hv
    rcases fw_mem_push hu with hu | hu
    · exact d4 u hu j v hj hv
    · rw [hu]
      by_cases e : i = j
      · rw [← e, ht] at hv
        rw [← Option.some.inj hv]
        exact hs
      · exact Nat.lt_trans hs (fw_asc_ix hl (by omega) ht hv)
  · intro j u hj hu
    rcases d6 j u hj hu with z | z
    · exact Or.inl (List.mem_append_left _ z)
    · exact Or.inr z
  · rw [List.length_append, List.length_singleton]
    simp at d8
    simp
    exact d8
theorem fw_lt_s {i : Nat} {j : Nat} (h : j < i + 1) : j < i ∨ j = i := by omega
theorem fw_D_next {l : List (Nat × Nat)} {s t : Nat × Nat} {i : Nat} {L : List (Nat × Nat)} {pb : Bool} (h : fw_D l s i pb L) (ht : l[i]? = some t) (hn : ¬ fw_le t s) (hb : fw_le s t) : fw_D l s (i + 1) pb L := by
  obtain ⟨d1, d2, d3, d4, d5, d6, d7, d8⟩ := h
  refine ⟨?_, d2, ?_, fun u hu j v hj => d4 u hu j v (by omega), d5, ?_, d7, by omega⟩
  · intro j u hj hu
    rcases fw_lt_s hj with z | z
    · exact d1 j u z hu
    · rw [z, ht] at hu
      rw [← Option.some.inj hu]
      exact hn
  · intro u hu
    rcases d3 u hu with ⟨j, z1, z2⟩ | z
    · exact Or.inl ⟨j, by omega, z2⟩
    · exact Or.inr z
  · intro j u hj hu
    rcases fw_lt_s hj with z | z
    · exact d6 j u z hu
    · rw [z, ht] at hu
      rw [← Option.some.inj hu]
      exact Or.inr hb
theorem fw_D_push {l : List (Nat × Nat)} {s t : Nat × Nat} {i : Nat} {L : List (Nat × Nat)} {pb : Bool} (hl : fw_asc l) (h : fw_D l s i pb L) (ht : l[i]? = some t) (hn : ¬ fw_le t s) (hb : ¬ fw_le s t) (hp : pb = true ∨ t.1 ≤ s.1) : fw_D l s (i + 1) pb (L ++ [t]) := by
  obtain ⟨d1, d2, d3, d4, d5, d6, d7, d8⟩ := h
  refine ⟨?_, fw_asc_push d2 (fun u hu => d4 u hu i t (Nat.le_refl _) ht), ?_, ?_, ?_, ?_, fun z => List.mem_append_left _ (d7 z), ?_⟩
  · intro j u hj hu
    rcases fw_lt_s hj with z | z
    · exact d1 j u z hu
    · rw [z, ht] at hu
      rw [← Option.some.inj hu]
      exact hn
  · intro u hu
    rcases fw_mem_push hu with hu | hu
    · rcases d3 u hu with ⟨j, z1, z2⟩ | z
      · exact Or.inl ⟨j, by omega, z2⟩
      · exact Or.inr z
    · exact Or.inl ⟨i, by omega, by rw [hu]; exact ht⟩
  · intro u hu j v hj hv
    rcases fw_mem_push hu with hu | hu
    · exact d4 u hu j v (by omega) hv
    · rw [hu]
      exact fw_asc_ix hl (by omega) ht hv
  · intro z u hu
    rcases fw_mem_push hu with hu | hu
    · exact d5 z u hu
    · rw [hu]
      rcases hp with q | q
      · rw [q] at z
        exact absurd z (by decide)
      · unfold fw_le at hn hb
        omega
  · intro j u hj hu
    rcases fw_lt_s hj with z | z
    · rcases d6 j u z hu with y | y
      · exact Or.inl (List.mem_append_left _ y)
      · exact Or.inr y
    · rw [z, ht] at hu
      rw [← Option.some.inj hu]
      exact Or.inl (List.mem_append_right _ (List.mem_singleton.mpr rfl))
  · rw [List.length_append, List.length_singleton]
    omega
theorem fw_D_ncov {l : List (Nat × Nat)} {s : Nat × Nat} {L : List (Nat × Nat)} {pb : Bool} (h : fw_D l s l.length pb L) : ¬ fw_cov l s := by
  intro ⟨t, ht1, ht2⟩
  obtain ⟨j, hj⟩ := List.mem_iff_getElem?.mp ht1
  exact h.1 j t (List.getElem?_eq_some_iff.mp hj).1 hj ht2
theorem fw_D_end {l : List (Nat × Nat)} {s : Nat × Nat} {L : List (Nat × Nat)} (hl : fw_okl l) (hc : fw_cov l s ∨ fw_sm s) (h : fw_D l s l.length true L) : fw_okl L ∧ fw_ins l s L := by
  have hnc := fw_D_ncov h
  obtain ⟨d1, d2, d3, d4, d5, d6, d7, d8⟩ := h
  have hm : ∀ t, t ∈ L → t ∈ l ∨ t = s ∧ ¬ fw_cov l s := by
    intro t ht
    rcases d3 t ht with ⟨j, _, z⟩ | z
    · exact Or.inl (List.mem_of_getElem? z)
    · exact Or.inr ⟨z.2, hnc⟩
  refine ⟨⟨d2, fun t ht => ?_⟩, hm, ?_, ⟨s, d7 rfl, fw_le_r _⟩⟩
  · rcases hm t ht with z | z
    · exact hl.2 t z
    · rcases hc with q | q
      · exact absurd q hnc
      · rw [z.1]
        exact q
  · intro t ht
    obtain ⟨u, hu1, hu2⟩ := ht
    obtain ⟨j, hj⟩ := List.mem_iff_getElem?.mp hu1
    rcases d6 j u (List.getElem?_eq_some_iff.mp hj).1 hj with z | z
    · exact ⟨u, z, hu2⟩
    · exact ⟨s, d7 rfl, fw_le_t z hu2⟩
theorem fw_D_last {l : List (Nat × Nat)} {s : Nat × Nat} {L : List (Nat × Nat)} (h : fw_D l s l.length false L) : fw_D l s l.length true (L ++ [s]) := by
  obtain ⟨d1, d2, d3, d4, d5, d6, d7, d8⟩ := h
  refine ⟨d1, fw_asc_push d2 (d5 rfl), ?_, ?_, fun z => absurd z (by decide), ?_, fun _ => List.mem_append_right _ (List.mem_singleton.mpr rfl), ?_⟩
  · intro u hu
    rcases fw_mem_push hu with hu | hu
    · rcases d3 u hu with z | z
      · exact Or.inl z
      · exact absurd z.1 (by decide)
    · exact Or.inr ⟨rfl, hu⟩
  · intro u hu j v hj hv
    have := (List.getElem?_eq_some_iff.mp hv).1
    omega
  · intro j u hj hu
    rcases d6 j u hj hu with z | z
    · exact Or.inl (List.mem_append_left _ z)
    · exact Or.inr z
  · rw [List.length_append, List.length_singleton]
    simp at d8
    simp
    exact d8
theorem fw_rw_put {a7 a8 a8' : Nat → Int32} {R : Nat → List (Nat × Nat)} {r : Nat} {L : List (Nat × Nat)} {k : Nat} {x : Int32} (h : fw_rw a7 a8 R) (hk : k = r) (hx : x = nI L.length) (hL : fw_okl L)
    (h1 : fw_hl a8' (19 * r) L) (h2 : ∀ j, (j < 19 * r ∨ 19 * r + 19 ≤ j) → a8' j = a8 j) : fw_rw (upd a7 k x) a8' (fw_put R r L) := by
  intro q hq
  obtain ⟨e1, e2, e3⟩ := h q hq
  by_cases e : q = r
  · rw [e, fw_put_s, ← hk, pk_us]
    rw [← hk] at h1
    exact ⟨hL, hx, h1⟩
  · rw [fw_put_n e, pk_un (by omega)]
    refine ⟨e1, e2, fun j t ht => ?_⟩
    have hj : j < (R q).length := (List.getElem?_eq_some_iff.mp ht).1
    have := fw_len e1
    rw [h2 _ (by omega)]
    exact e3 j t ht
section
variable {post : St1 → Prop} {J : Int32 → Int32 → Int32 → (Nat → Int32) → (Nat → Int32) → (Nat → Int32) → (Nat → Int32) → (Nat → Int32) → (Nat → Int32) → (Nat → Int32) → (Nat → Int32) → (Nat → Int32) → (Nat → Int32) → Prop} {x1 x3 x4 fl ft fg : Int32} {a1 a2 a3 a4 a5 a6 a7 a8 a9 a10 : Nat → Int32}
theorem fw_148a {x2 : Int32} {k L : Nat} {t : Nat × Nat} (hk : k < 931) (hL : L < 40) (ha : a8 k = nI (fw_cd t))
    (H : J x4 (nI (k + 1)) (nI (L + 1)) a1 a2 a3 a4 a5 a6 a7 a8 (upd a9 L (nI (fw_cd t))) a10) : wX_addSum_148 post J x1 x2 x3 x4 (nI k) 0 fl ft (nI L) a1 a2 a3 a4 a5 a6 a7 a8 a9 a10 := by
  unfold wX_addSum_148
  rw [nI_clamp (show k < 2 ^ 31 by omega), nI_clamp (show L < 2 ^ 31 by omega), ha]
  exact br_t rfl ⟨pk_in k 931 hk, pk_in L 40 hL, nm_e (nm_r (nI_1 L) (nm_r (nI_1 k) H))⟩
theorem fw_148b {x2 : Int32} {k : Nat} (H : J x4 (nI (k + 1)) fg a1 a2 a3 a4 a5 a6 a7 a8 a9 a10) : wX_addSum_148 post J x1 x2 x3 x4 (nI k) 1 fl ft fg a1 a2 a3 a4 a5 a6 a7 a8 a9 a10 := by
  unfold wX_addSum_148
  exact br_f (by decide) (nm_r (nI_1 k) H)
theorem fw_109 {s t : Nat × Nat} {k L : Nat} (hk : k < 931) (hL : L < 40) (ha : a8 k = nI (fw_cd t)) (hs : s.1 ≤ 36 ∧ s.2 ≤ 36) (ht : fw_sm t)
    (H1 : ¬ fw_le s t → J x4 (nI (k + 1)) (nI (L + 1)) a1 a2 a3 a4 a5 a6 a7 a8 (upd a9 L (nI (fw_cd t))) a10)
    (H2 : fw_le s t → J x4 (nI (k + 1)) (nI L) a1 a2 a3 a4 a5 a6 a7 a8 a9 a10) : wX_addSum_109 post J x1 (nI (fw_cd s)) x3 x4 (nI k) fl ft (nI L) a1 a2 a3 a4 a5 a6 a7 a8 a9 a10 := by
  obtain ⟨t1, t2⟩ := ht
  obtain ⟨s1, s2⟩ := hs
  unfold wX_addSum_109
  rw [nI_clamp (show k < 2 ^ 31 by omega), ha, fw_hi (by omega) (by omega), fw_lo (by omega) (by omega), fw_hi (by omega) (by omega), fw_lo (by omega) (by omega)]
  refine ⟨pk_in k 931 hk, pk_lt t.1 s.1 (fun z => fw_148a hk hL ha (H1 (fun q => by unfold fw_le at q; omega))) (fun z => ⟨pk_in k 931 hk, pk_lt t.2 s.2 (fun y => fw_148a hk hL ha (H1 (fun q => by unfold fw_le at q; omega))) (fun y => fw_148b (H2 ⟨z, y⟩))⟩)⟩
theorem fw_76 {s t : Nat × Nat} {k L : Nat} {pb : Bool} {x6 : Int32} (hk : k < 931) (hL : L + 1 < 40) (ha : a8 k = nI (fw_cd t)) (hs : s.1 ≤ 36 ∧ s.2 ≤ 36) (ht : fw_sm t)
    (H0 : x6 = 0 → pb = false → ¬ fw_le s t → J 1 (nI (k + 1)) (nI (L + 2)) a1 a2 a3 a4 a5 a6 a7 a8 (upd (upd a9 L (nI (fw_cd s))) (L + 1) (nI (fw_cd t))) a10)
    (H1 : x6 = 0 → pb = false → fw_le s t → J 1 (nI (k + 1)) (nI (L + 1)) a1 a2 a3 a4 a5 a6 a7 a8 (upd a9 L (nI (fw_cd s))) a10)
    (H2 : (x6 = 0 → pb = true) → ¬ fw_le s t → J (if pb then 1 else 0) (nI (k + 1)) (nI (L + 1)) a1 a2 a3 a4 a5 a6 a7 a8 (upd a9 L (nI (fw_cd t))) a10)
    (H3 : (x6 = 0 → pb = true) → fw_le s t → J (if pb then 1 else 0) (nI (k + 1)) (nI L) a1 a2 a3 a4 a5 a6 a7 a8 a9 a10) :
    wX_addSum_76 post J x1 (nI (fw_cd s)) x3 (if pb then 1 else 0) (nI k) x6 fl ft (nI L) a1 a2 a3 a4 a5 a6 a7 a8 a9 a10 := by
  unfold wX_addSum_76
  refine br_c (fun z => ?_) (fun z => fw_109 hk (by omega) ha hs ht (H2 (fun y => absurd y z)) (H3 (fun y => absurd y z)))
  cases pb with
  | true => exact br_f (by decide) (fw_109 hk (by omega) ha hs ht (H2 (fun _ => rfl)) (H3 (fun _ => rfl)))
  | false =>
    refine br_t rfl ⟨pk_in L 40 (by omega), ?_⟩
    rw [nI_clamp (show L < 2 ^ 31 by omega)]
    exact nm_e (nm_r (nI_1 L) (fw_109 hk (by omega) ha hs ht (H0 z rfl) (H1 z rfl)))
/-- the gathered sums are laid into the row -/
theorem fw_215 {R : Nat → List (Nat × Nat)} {r : Nat} {L : List (Nat × Nat)} (hr : r < 49) (hR : fw_rw a7 a8 R) (hL : fw_okl L) (h9 : fw_hl a9 0 L)
    (H : ∀ a7' a8', fw_rw a7' a8' (fw_put R r L) → post (fl, ft, nI L.length, a1, a2, a3, a4, a5, a6, a7', a8', a9, a10)) :
    ∃ n, wX_addSum_215 post (nI r) (nI (19 * r)) fl ft (nI L.length) n 0 a1 a2 a3 a4 a5 a6 a7 a8 a9 a10 := by
  have hN := fw_len hL
  refine pk_loop (fun n i s => wX_addSum_215 post (nI r) (nI (19 * r)) fl ft (nI L.length) n (nI i) a1 a2 a3 a4 a5 a6 a7 s a9 a10)
    (fun i s => (∀ j, j < i → s (19 * r + j) = a9 j) ∧ ∀ j, (j < 19 * r ∨ 19 * r + 19 ≤ j) → s j = a8 j) L.length 0 a8 (by omega) ⟨fun j hj => absurd hj (by omega), fun _ _ => rfl⟩ ?_ ?_
  · intro n s h
    refine pk_le L.length L.length (fun _ => ⟨pk_in r 49 hr, ?_⟩) (fun z => absurd z (by omega))
    refine nm_e (H _ s (fw_rw_put hR (nI_clamp (by omega)) rfl hL (fun j e he => ?_) h.2))
    rw [h.1 j (List.getElem?_eq_some_iff.mp he).1]
    have := h9 j e he
    rw [Nat.zero_add] at this
    exact this
  · intro n i s hi h hw
    refine pk_le L.length i (fun z => absurd z (by omega)) (fun _ => ⟨pk_in i 40 (by omega), pk_in (19 * r + i) 931 (by omega) (nI_add _ _), ?_⟩)
    rw [nI_add, nI_clamp (show 19 * r + i < 2 ^ 31 by omega), nI_clamp (show i < 2 ^ 31 by omega)]
    refine nm_e (nm_r (nI_1 i) (hw _ ⟨fun j hj => ?_, fun j hj => ?_⟩))
    · by_cases e : j = i
      · rw [e, pk_us]
      · rw [pk_un (by omega)]
        exact h.1 j (by omega)
    · rw [pk_un (by omega)]
      exact h.2 j hj
theorem fw_16 {R : Nat → List (Nat × Nat)} {r : Nat} {s : Nat × Nat} (hR : fw_rw a7 a8 R) (hr : r < 49) (hs : s.1 ≤ 36 ∧ s.2 ≤ 36) (hc : fw_cov (R r) s ∨ fw_sm s)
    (H : ∀ g a7' a8' a9' l, fw_rw a7' a8' (fw_put R r l) → fw_ins (R r) s l → post (fl, ft, g, a1, a2, a3, a4, a5, a6, a7', a8', a9', a10)) :
    ∃ n, wX_addSum_16 post (nI r) (nI (fw_cd s)) (nI (19 * r)) fl ft n 0 (nI (19 * r)) 0 a1 a2 a3 a4 a5 a6 a7 a8 a9 a10 := by
  obtain ⟨hl, h7, h8⟩ := hR r hr
  have hN := fw_len hl
  refine pk_loop (σ := Int32 × Int32 × (Nat → Int32)) (fun n i u => wX_addSum_16 post (nI r) (nI (fw_cd s)) (nI (19 * r)) fl ft n u.1 (nI (19 * r + i)) u.2.1 a1 a2 a3 a4 a5 a6 a7 a8 u.2.2 a10)
    (fun i u => ∃ (pb : Bool) (L : List (Nat × Nat)), u.1 = (if pb then 1 else 0) ∧ u.2.1 = nI L.length ∧ fw_hl u.2.2 0 L ∧ fw_D (R r) s i pb L) (R r).length 0 (0, 0, a9) (by omega) ⟨false, [], rfl, rfl, fun j e he => by simp at he, fw_D_0 _ _⟩ ?_ ?_
  · intro n u ⟨pb, L, e1, e2, e3, e4⟩
    obtain ⟨u1, u2, u3⟩ := u
    dsimp only at e1 e2 e3
    subst e1 e2
    dsimp only
    have hnc := fw_D_ncov e4
    refine ⟨pk_in r 49 hr, ?_⟩
    refine pk_le (19 * r + (R r).length) (19 * r + (R r).length) (fun _ => ?_) (fun z => absurd z (by omega)) (by rw [nI_clamp (show r < 2 ^ 31 by omega), h7, nI_add])
    cases pb with
    | true =>
      have h := fw_D_end hl hc e4
      exact br_f (by decide) (fw_215 hr hR h.1 e3 (fun a7' a8' h' => H _ a7' a8' _ L h' h.2))
    | false =>
      have hLl : L.length ≤ (R r).length + (if false = true then 1 else 0) := e4.2.2.2.2.2.2.2
      simp at hLl
      have h := fw_D_end hl hc (fw_D_last e4)
      refine br_t rfl ⟨pk_in L.length 40 (by omega), ?_⟩
      refine nm_e (nm_r (nI_1 _) ?_)
      have h9 := fw_hl_push (e := s) (nI_clamp (show L.length < 2 ^ 31 by omega)) rfl e3
      have hx := fw_215 (post := post) (fl := fl) (ft := ft) (a1 := a1) (a2 := a2) (a3 := a3) (a4 := a4) (a5 := a5) (a6 := a6) (a10 := a10) hr hR h.1 h9 (fun a7' a8' h' => H _ a7' a8' _ (L ++ [s]) h' h.2)
      rw [List.length_append, List.length_singleton] at hx
      exact hx
  · intro n i u hi ⟨pb, L, e1, e2, e3, e4⟩ hw
    obtain ⟨u1, u2, u3⟩ := u
    dsimp only at e1 e2 e3
    subst e1 e2
    dsimp only
    obtain ⟨t, ht⟩ := fw_ix hi
    have htm := hl.2 t (List.mem_of_getElem? ht)
    have h8t := h8 i t ht
    have hLl : L.length ≤ i + 1 := by
      have : L.length ≤ i + (if pb then 1 else 0) := e4.2.2.2.2.2.2.2
      split at this <;> omega
    have hk : 19 * r + i < 931 := by omega
    have hcl : (nI (19 * r + i)).toNatClampNeg = 19 * r + i := nI_clamp (by omega)
    have q1 : a8 (nI (19 * r + i)).toNatClampNeg >>> ((6 : Int32) &&& 31) = nI t.1 := by rw [hcl, h8t, fw_hi (by have := htm.1; omega) (by have := htm.2; omega)]
    have q2 : a8 (nI (19 * r + i)).toNatClampNeg &&& 63 = nI t.2 := by rw [hcl, h8t, fw_lo (by have := htm.1; omega) (by have := htm.2; omega)]
    have q3 := fw_hi (s := s) (by omega) (by omega)
    have q4 := fw_lo (s := s) (by omega) (by omega)
    have t1 := htm.1
    have t2 := htm.2
    -- the step behind the two comparisons
    have st : ∀ x6 : Int32, ¬ fw_le t s → (x6 = 0 → s.1 < t.1) → (¬ x6 = 0 → t.1 ≤ s.1) → wX_addSum_76 post (wX_addSum_16 post (nI r) (nI (fw_cd s)) (nI (19 * r)) fl ft n) (nI r) (nI (fw_cd s)) (nI (19 * r)) (if pb then 1 else 0) (nI (19 * r + i)) x6 fl ft (nI L.length) a1 a2 a3 a4 a5 a6 a7 a8 u3 a10 := by
      intro x6 hn g1 g2
      refine fw_76 (t := t) hk (by omega) h8t hs htm ?_ ?_ ?_ ?_
      · intro z y hb
        subst y
        have hd := fw_D_push hl.1 (fw_D_place hl.1 e4 ht (g1 z)) ht hn hb (Or.inl rfl)
        refine hw (1, nI (L.length + 2), _) ⟨true, _, rfl, ?_, fw_hl_push ?_ rfl (fw_hl_push rfl rfl e3), hd⟩
        · simp
        · simp
      · intro z y hb
        subst y
        have hd := fw_D_next (fw_D_place hl.1 e4 ht (g1 z)) ht hn hb
        refine hw (1, nI (L.length + 1), _) ⟨true, _, rfl, ?_, fw_hl_push rfl rfl e3, hd⟩
        simp
      · intro z hb
        have hp : pb = true ∨ t.1 ≤ s.1 := by
          by_cases y : x6 = 0
          · exact Or.inl (z y)
          · exact Or.inr (g2 y)
        refine hw (_, nI (L.length + 1), _) ⟨pb, _, rfl, ?_, fw_hl_push rfl rfl e3, fw_D_push hl.1 e4 ht hn hb hp⟩
        simp
      · intro z hb
        exact hw (_, nI L.length, _) ⟨pb, L, rfl, rfl, e3, fw_D_next e4 ht hn hb⟩
    refine ⟨pk_in r 49 hr, ?_⟩
    refine pk_le (19 * r + (R r).length) (19 * r + i) (fun z => absurd z (by omega)) (fun _ => ⟨pk_in (19 * r + i) 931 hk, ?_⟩) (by rw [nI_clamp (show r < 2 ^ 31 by omega), h7, nI_add])
    refine pk_lt s.1 t.1 (fun z => ?_) (fun z => ?_) q3 q1
    · exact br_t rfl (st 0 (fun q => by unfold fw_le at q; omega) (fun _ => z) (fun q => absurd rfl q))
    · refine br_f (by decide) ⟨pk_in (19 * r + i) 931 hk, ?_⟩
      refine pk_lt s.2 t.2 (fun y => ?_) (fun y => ?_) q4 q2
      · exact st 1 (fun q => by unfold fw_le at q; omega) (fun q => absurd q (by decide)) (fun _ => z)
      · have hcov : fw_cov (R r) s := ⟨t, List.mem_of_getElem? ht, z, y⟩
        refine H _ a7 a8 _ (R r) ?_ ⟨fun t ht => Or.inl ht, fun t ht => ht, hcov⟩
        intro x hx
        by_cases e : x = r
        · rw [e, fw_put_s]
          exact hR r hr
        · rw [fw_put_n e]
          exact hR x hx
theorem fw_addSum {R : Nat → List (Nat × Nat)} {r : Nat} {s : Nat × Nat} {p0 p1 : Int32} (h0 : p0 = nI r) (h1 : p1 = nI (fw_cd s)) (hR : fw_rw a7 a8 R) (hr : r < 49) (hs : s.1 ≤ 36 ∧ s.2 ≤ 36) (hc : fw_cov (R r) s ∨ fw_sm s)
    (H : ∀ g a7' a8' a9' l, fw_rw a7' a8' (fw_put R r l) → fw_ins (R r) s l → post (fl, ft, g, a1, a2, a3, a4, a5, a6, a7', a8', a9', a10)) :
    wpX_addSum post (fl, ft, fg, a1, a2, a3, a4, a5, a6, a7, a8, a9, a10) p0 p1 := by
  subst h0 h1
  unfold wpX_addSum
  dsimp only
  exact nm_r (pk_mul 19 r) (fw_16 hR hr hs hc H)
end
end
section
/-! sums, marks, count -/
def fw_S (f : Nat → Nat) : Nat → Nat
  | 0 => 0
  | n + 1 => fw_S f n + f n
theorem fw_S_pos (f : Nat → Nat) (n : Nat) : 0 < fw_S f n ↔ ∃ k, k < n ∧ 0 < f k := by
  induction n with
  | zero => exact ⟨fun h => absurd h (by simp [fw_S]), fun ⟨k, h, _⟩ => absurd h (by omega)⟩
  | succ n ih =>
    constructor
    · intro h
      have h' : 0 < fw_S f n + f n := h
      by_cases g : 0 < fw_S f n
      · obtain ⟨k, h1, h2⟩ := ih.mp g
        exact ⟨k, by omega, h2⟩
      · exact ⟨n, by omega, by omega⟩
    · intro ⟨k, h1, h2⟩
      show 0 < fw_S f n + f n
      by_cases g : k = n
      · rw [g] at h2
        omega
      · have := ih.mpr ⟨k, by omega, h2⟩
        omega
theorem fw_S_le {f : Nat → Nat} {B : Nat} {n : Nat} (h : ∀ k, k < n → f k ≤ B) : fw_S f n ≤ n * B := by
  induction n with
  | zero => exact Nat.zero_le _
  | succ n ih =>
    show fw_S f n + f n ≤ (n + 1) * B
    have h1 := ih (fun k hk => h k (by omega))
    have h2 := h n (by omega)
    rw [Nat.add_mul, Nat.one_mul]
    omega
theorem fw_S_cg {f g : Nat → Nat} {n : Nat} (h : ∀ k, k < n → f k = g k) : fw_S f n = fw_S g n := by
  induction n with
  | zero => rfl
  | succ n ih =>
    show fw_S f n + f n = fw_S g n + g n
    rw [ih (fun k hk => h k (by omega)), h n (by omega)]
theorem fw_S_up {f g : Nat → Nat} {n k : Nat} (hk : k < n) (h : ∀ j, j < n → j ≠ k → g j = f j) : fw_S g n + f k = fw_S f n + g k := by
  induction n with
  | zero => exact absurd hk (by omega)
  | succ n ih =>
    show fw_S g n + g n + f k = fw_S f n + f n + g k
    by_cases e : k = n
    · rw [e, fw_S_cg (f := g) (g := f) (fun j hj => h j (by omega) (by omega))]
      omega
    · have h1 := ih (by omega) (fun j hj => h j (by omega))
      have h2 := h n (by omega) (by omega)
      omega
def fw_hit (ta tb m : Nat) (e : Nat × Nat) (x : Nat) : Nat := if ta + e.1 ≤ 15 ∧ tb + e.2 ≤ 15 ∧ 256 * m + 16 * (ta + e.1) + (tb + e.2) = x then 1 else 0
def fw_cl (ta tb m : Nat) (l : List (Nat × Nat)) (x n : Nat) : Nat := fw_S (fun k => fw_hit ta tb m (l.getD k (0, 0)) x) n
def fw_c7 (R : Nat → List (Nat × Nat)) (pl tm x n : Nat) : Nat := fw_S (fun m => fw_cl (tm / 16) (tm % 16) m (R (7 * pl + m)) x (R (7 * pl + m)).length) n
def fw_tot (R : Nat → List (Nat × Nat)) (a5 a6 : Nat → Int32) (x n : Nat) : Nat := fw_S (fun k => fw_c7 R (a5 k).toNatClampNeg (a6 k).toNatClampNeg x 7) n
def fw_mk (R : Nat → List (Nat × Nat)) (nt : Nat) (a5 a6 a10 : Nat → Int32) : Prop := ∀ x, x < 1792 → a10 x = nI (fw_tot R a5 a6 x nt)
def fw_tk (nt : Nat) (a5 a6 : Nat → Int32) : Prop := nt ≤ 20 ∧ ∀ k, k < nt → ∃ p t, p < 7 ∧ t < 256 ∧ a5 k = nI p ∧ a6 k = nI t
theorem fw_hit0 {ta tb m : Nat} {e : Nat × Nat} {x : Nat} (h : ¬ (ta + e.1 ≤ 15 ∧ tb + e.2 ≤ 15 ∧ 256 * m + 16 * (ta + e.1) + (tb + e.2) = x)) : fw_hit ta tb m e x = 0 := if_neg h
theorem fw_hit1 {ta tb m : Nat} {e : Nat × Nat} {x : Nat} (h : ta + e.1 ≤ 15 ∧ tb + e.2 ≤ 15 ∧ 256 * m + 16 * (ta + e.1) + (tb + e.2) = x) : fw_hit ta tb m e x = 1 := if_pos h
theorem fw_hit_le (ta tb m : Nat) (e : Nat × Nat) (x : Nat) : fw_hit ta tb m e x ≤ 1 := by
  unfold fw_hit
  split <;> omega
theorem fw_getD {l : List (Nat × Nat)} {k : Nat} {e : Nat × Nat} (h : l[k]? = some e) : l.getD k (0, 0) = e := by
  rw [List.getD_eq_getElem?_getD, h]
  rfl
theorem fw_c7_le {R : Nat → List (Nat × Nat)} (hR : ∀ r, r < 49 → fw_okl (R r)) {pl tm x : Nat} (hp : pl < 7) : fw_c7 R pl tm x 7 ≤ 133 := by
  refine fw_S_le (B := 19) (n := 7) (fun m hm => ?_)
  have h1 := fw_len (hR (7 * pl + m) (by omega))
  have h2 : fw_cl (tm / 16) (tm % 16) m (R (7 * pl + m)) x (R (7 * pl + m)).length ≤ (R (7 * pl + m)).length * 1 := fw_S_le (fun k _ => fw_hit_le _ _ _ _ _)
  omega
theorem fw_tot_le {R : Nat → List (Nat × Nat)} (hR : ∀ r, r < 49 → fw_okl (R r)) {nt : Nat} {a5 a6 : Nat → Int32} (ht : fw_tk nt a5 a6) (x : Nat) : fw_tot R a5 a6 x nt ≤ 2660 := by
  have h : fw_tot R a5 a6 x nt ≤ nt * 133 := by
    refine fw_S_le (fun k hk => ?_)
    obtain ⟨p, t, h1, h2, h3, h4⟩ := ht.2 k hk
    rw [h3, h4, nI_clamp (by omega), nI_clamp (by omega)]
    exact fw_c7_le hR h1
  have := ht.1
  omega
/-- a place is marked when some token makes it -/
theorem fw_mk_iff {R : Nat → List (Nat × Nat)} (hR : ∀ r, r < 49 → fw_okl (R r)) {nt : Nat} {a5 a6 a10 : Nat → Int32} (ht : fw_tk nt a5 a6) (hm : fw_mk R nt a5 a6 a10) {m a b : Nat} (h1 : m < 7) (h2 : a < 16) (h3 : b < 16) :
    ¬ a10 (256 * m + 16 * a + b) ≤ 0 ↔ ∃ k, k < nt ∧ ∃ p t e, p < 7 ∧ t < 256 ∧ a5 k = nI p ∧ a6 k = nI t ∧ e ∈ R (7 * p + m) ∧ t / 16 + e.1 = a ∧ t % 16 + e.2 = b := by
  have hle := fw_tot_le hR ht (256 * m + 16 * a + b)
  rw [hm _ (by omega)]
  have e0 : (¬ nI (fw_tot R a5 a6 (256 * m + 16 * a + b) nt) ≤ 0) ↔ 0 < fw_tot R a5 a6 (256 * m + 16 * a + b) nt := by
    rw [← nI_0, nI_leI (by omega) (by omega)]
    omega
  rw [e0]
  unfold fw_tot
  rw [fw_S_pos]
  constructor
  · intro ⟨k, hk, g⟩
    obtain ⟨p, t, q1, q2, q3, q4⟩ := ht.2 k hk
    rw [q3, q4, nI_clamp (by omega), nI_clamp (by omega)] at g
    obtain ⟨m', hm', g2⟩ := (fw_S_pos _ _).mp g
    obtain ⟨j, hj, g3⟩ := (fw_S_pos _ _).mp g2
    obtain ⟨e, he⟩ := fw_ix hj
    rw [fw_getD he] at g3
    by_cases c : t / 16 + e.1 ≤ 15 ∧ t % 16 + e.2 ≤ 15 ∧ 256 * m' + 16 * (t / 16 + e.1) + (t % 16 + e.2) = 256 * m + 16 * a + b
    · have hmm : m' = m := by omega
      subst hmm
      exact ⟨k, hk, p, t, e, q1, q2, q3, q4, List.mem_of_getElem? he, by omega, by omega⟩
    · rw [fw_hit0 c] at g3
      exact absurd g3 (by omega)
  · intro ⟨k, hk, p, t, e, q1, q2, q3, q4, q5, q6, q7⟩
    refine ⟨k, hk, ?_⟩
    rw [q3, q4, nI_clamp (by omega), nI_clamp (by omega)]
    obtain ⟨j, hj⟩ := List.mem_iff_getElem?.mp q5
    refine (fw_S_pos _ _).mpr ⟨m, h1, (fw_S_pos _ _).mpr ⟨j, (List.getElem?_eq_some_iff.mp hj).1, ?_⟩⟩
    rw [fw_getD hj, fw_hit1 ⟨by omega, by omega, by omega⟩]
    omega
theorem fw_ix3 (m a b : Nat) : ((256 * nI m) + (16 * nI a)) + nI b = nI (256 * m + 16 * a + b) := by
  rw [show (256 : Int32) = nI 256 from rfl, show (16 : Int32) = nI 16 from rfl, pk_mul, pk_mul, nI_add, nI_add]
theorem fw_ix2 (a b : Nat) : (16 * nI a) + nI b = nI (16 * a + b) := by
  rw [show (16 : Int32) = nI 16 from rfl, pk_mul, nI_add]
theorem fw_ix7 (a b : Nat) : (7 * nI a) + nI b = nI (7 * a + b) := by
  rw [show (7 : Int32) = nI 7 from rfl, pk_mul, nI_add]
theorem fw_thi {t : Nat} (h : t < 256) : nI t >>> ((4 : Int32) &&& 31) = nI (t / 16) := by
  rw [pk_shrN (by omega) _ 4 (by decide)]
theorem fw_tlo {t : Nat} (h : t < 256) : nI t &&& 15 = nI (t % 16) := by
  rw [pk_andN (by omega) 4 (by decide)]
theorem fw_alg1 (a x c : Int32) : a + x * c + x = a + x * (c + 1) := by
  rw [Int32.mul_add, Int32.mul_one, Int32.add_assoc]
theorem fw_alg2 (a x c d : Int32) : a + x * c + x * d = a + x * (c + d) := by
  rw [Int32.mul_add, Int32.add_assoc]
section
variable {post : St1 → Prop} {J : Int32 → (Nat → Int32) → (Nat → Int32) → (Nat → Int32) → (Nat → Int32) → (Nat → Int32) → (Nat → Int32) → (Nat → Int32) → (Nat → Int32) → (Nat → Int32) → (Nat → Int32) → Prop} {x3 fl ft fg : Int32} {a1 a2 a3 a4 a5 a6 a7 a8 a9 a10 : Nat → Int32}
theorem fw_c26 {R : Nat → List (Nat × Nat)} {pl m tm : Nat} (hR : fw_rw a7 a8 R) (hp : pl < 7) (hm : m < 7) (ht : tm < 256)
    (H : ∀ b, (∀ x, b x = a10 x + x3 * nI (fw_cl (tm / 16) (tm % 16) m (R (7 * pl + m)) x (R (7 * pl + m)).length)) → J (nI (m + 1)) a1 a2 a3 a4 a5 a6 a7 a8 a9 b) :
    ∃ n, wX_count_26 post J (nI pl) (nI tm) x3 (nI m) (nI (7 * pl + m)) fl ft fg n (nI (19 * (7 * pl + m))) a1 a2 a3 a4 a5 a6 a7 a8 a9 a10 := by
  have hr : 7 * pl + m < 49 := by omega
  obtain ⟨hl, h7, h8⟩ := hR _ hr
  have hN := fw_len hl
  have hcl : (nI (7 * pl + m)).toNatClampNeg = 7 * pl + m := nI_clamp (by omega)
  have he : (19 * nI (7 * pl + m)) + a7 (nI (7 * pl + m)).toNatClampNeg = nI (19 * (7 * pl + m) + (R (7 * pl + m)).length) := by
    rw [hcl, h7, show (19 : Int32) = nI 19 from rfl, pk_mul, nI_add]
  refine pk_loop (fun n i s => wX_count_26 post J (nI pl) (nI tm) x3 (nI m) (nI (7 * pl + m)) fl ft fg n (nI (19 * (7 * pl + m) + i)) a1 a2 a3 a4 a5 a6 a7 a8 a9 s)
    (fun i s => ∀ x, s x = a10 x + x3 * nI (fw_cl (tm / 16) (tm % 16) m (R (7 * pl + m)) x i)) (R (7 * pl + m)).length 0 a10 (by omega) ?_ ?_ ?_
  · intro x
    show a10 x = a10 x + x3 * nI 0
    rw [nI_0, Int32.mul_zero, Int32.add_zero]
  · intro n s h
    exact ⟨pk_in _ 49 hr, pk_le (19 * (7 * pl + m) + (R (7 * pl + m)).length) (19 * (7 * pl + m) + (R (7 * pl + m)).length) (fun _ => nm_r (nI_1 m) (H s h)) (fun z => absurd z (by omega)) he⟩
  · intro n i s hi h hw
    obtain ⟨e, hie⟩ := fw_ix hi
    obtain ⟨e1, e2⟩ := hl.2 e (List.mem_of_getElem? hie)
    have h8e := h8 i e hie
    have hk : 19 * (7 * pl + m) + i < 931 := by omega
    have hkc : (nI (19 * (7 * pl + m) + i)).toNatClampNeg = 19 * (7 * pl + m) + i := nI_clamp (by omega)
    have hst : ∀ x, fw_cl (tm / 16) (tm % 16) m (R (7 * pl + m)) x (i + 1) = fw_cl (tm / 16) (tm % 16) m (R (7 * pl + m)) x i + fw_hit (tm / 16) (tm % 16) m e x := by
      intro x
      show fw_cl (tm / 16) (tm % 16) m (R (7 * pl + m)) x i + fw_hit (tm / 16) (tm % 16) m ((R (7 * pl + m)).getD i (0, 0)) x = _
      rw [fw_getD hie]
    have skip : ¬ (tm / 16 + e.1 ≤ 15 ∧ tm % 16 + e.2 ≤ 15) → ∀ x, s x = a10 x + x3 * nI (fw_cl (tm / 16) (tm % 16) m (R (7 * pl + m)) x (i + 1)) := by
      intro g x
      rw [hst x, fw_hit0 (fun y => g ⟨y.1, y.2.1⟩), Nat.add_zero]
      exact h x
    refine ⟨pk_in _ 49 hr, pk_le (19 * (7 * pl + m) + (R (7 * pl + m)).length) (19 * (7 * pl + m) + i) (fun z => absurd z (by omega)) (fun _ => ⟨pk_in _ 931 hk, ?_⟩) he⟩
    rw [hkc, h8e, fw_hi (by omega) (by omega), fw_lo (by omega) (by omega), fw_thi ht, fw_tlo ht]
    refine nm_r (nI_add _ _) ⟨pk_in _ 931 hk, nm_r (nI_add _ _) ?_⟩
    refine pk_lt 15 (tm / 16 + e.1) (fun z => nm_r (nI_1 _) (hw s (skip (fun y => by omega)))) (fun z => ?_)
    refine pk_lt 15 (tm % 16 + e.2) (fun y => nm_r (nI_1 _) (hw s (skip (fun y => by omega)))) (fun y => ?_)
    rw [fw_ix3]
    refine ⟨pk_in (256 * m + 16 * (tm / 16 + e.1) + (tm % 16 + e.2)) 1792 (by omega), pk_in (256 * m + 16 * (tm / 16 + e.1) + (tm % 16 + e.2)) 1792 (by omega), ?_⟩
    rw [nI_clamp (show 256 * m + 16 * (tm / 16 + e.1) + (tm % 16 + e.2) < 2 ^ 31 by omega)]
    refine nm_e (nm_r (nI_1 _) (hw _ (fun x => ?_)))
    rw [hst x]
    by_cases c : x = 256 * m + 16 * (tm / 16 + e.1) + (tm % 16 + e.2)
    · rw [fw_hit1 ⟨by omega, by omega, c.symm⟩, c, pk_us, h, nI_succ, fw_alg1]
    · rw [fw_hit0 (fun q => c q.2.2.symm), pk_un c, Nat.add_zero]
      exact h x
theorem fw_count {R : Nat → List (Nat × Nat)} {pl tm : Nat} {p0 p1 : Int32} (h0 : p0 = nI pl) (h1 : p1 = nI tm) (hR : fw_rw a7 a8 R) (hp : pl < 7) (ht : tm < 256)
    (H : ∀ b, (∀ x, b x = a10 x + x3 * nI (fw_c7 R pl tm x 7)) → post (fl, ft, fg, a1, a2, a3, a4, a5, a6, a7, a8, a9, b)) :
    wpX_count post (fl, ft, fg, a1, a2, a3, a4, a5, a6, a7, a8, a9, a10) p0 p1 x3 := by
  subst h0 h1
  unfold wpX_count
  dsimp only
  refine pk_loop (fun n i s => wX_count_3 post (nI pl) (nI tm) x3 fl ft fg n (nI i) a1 a2 a3 a4 a5 a6 a7 a8 a9 s)
    (fun i s => ∀ x, s x = a10 x + x3 * nI (fw_c7 R pl tm x i)) 7 0 a10 (by omega) ?_ ?_ ?_
  · intro x
    show a10 x = a10 x + x3 * nI 0
    rw [nI_0, Int32.mul_zero, Int32.add_zero]
  · intro n s h
    exact pk_le 7 7 (fun _ => H s h) (fun z => absurd z (by omega))
  · intro n i s hi h hw
    refine pk_le 7 i (fun z => absurd z (by omega)) (fun _ => nm_r (fw_ix7 pl i) (nm_r (pk_mul 19 _) (fw_c26 hR hp hi ht (fun b hb => hw b (fun x => ?_)))))
    rw [hb x, h x, fw_alg2, nI_add]
    rfl
end
end
section
/-! joinOver, rebuild -/
theorem fw_J_0 (l0 F G : List (Nat × Nat)) : fw_J l0 F G 0 0 l0 :=
  ⟨fun t ht => Or.inl ht, fun t ht => ht, fun a b s u _ _ h => absurd h (by omega)⟩
theorem fw_J_st {l0 F G l l' : List (Nat × Nat)} {x y : Nat} {s u : Nat × Nat} (h : fw_J l0 F G x y l) (hs : F[x]? = some s) (hu : G[y]? = some u) (hi : fw_ins l (fw_plus s u) l') : fw_J l0 F G x (y + 1) l' := by
  obtain ⟨j1, j2, j3⟩ := h
  obtain ⟨i1, i2, i3⟩ := hi
  refine ⟨fun t ht => ?_, fun t ht => i2 t (j2 t ht), fun a b s' u' ha hb hc => ?_⟩
  · rcases i1 t ht with z | z
    · exact j1 t z
    · exact Or.inr ⟨s, u, List.mem_of_getElem? hs, List.mem_of_getElem? hu, fun q => z.2 (j2 _ q), z.1⟩
  · by_cases c : a = x ∧ b = y
    · rw [c.1, hs] at ha
      rw [c.2, hu] at hb
      rw [← Option.some.inj ha, ← Option.some.inj hb]
      exact i3
    · exact i2 _ (j3 a b s' u' ha hb (by omega))
theorem fw_J_row {l0 F G l : List (Nat × Nat)} {x : Nat} (h : fw_J l0 F G x G.length l) : fw_J l0 F G (x + 1) 0 l := by
  obtain ⟨j1, j2, j3⟩ := h
  refine ⟨j1, j2, fun a b s u ha hb hc => j3 a b s u ha hb ?_⟩
  have := (List.getElem?_eq_some_iff.mp hb).1
  omega
theorem fw_cd_plus (s u : Nat × Nat) : fw_cd (fw_plus s u) = fw_cd s + fw_cd u := by
  simp only [fw_cd, fw_plus]
  omega
theorem fw_put_id {R R' : Nat → List (Nat × Nat)} {r : Nat} {l : List (Nat × Nat)} (h : ∀ q, q ≠ r → R' q = R q) : ∀ q, q ≠ r → fw_put R' r l q = R q := fun q hq => by rw [fw_put_n hq, h q hq]
section
variable {post : St1 → Prop} {J : Int32 → Int32 → Int32 → Int32 → (Nat → Int32) → (Nat → Int32) → (Nat → Int32) → (Nat → Int32) → (Nat → Int32) → (Nat → Int32) → (Nat → Int32) → (Nat → Int32) → (Nat → Int32) → (Nat → Int32) → Prop} {fl ft fg : Int32} {a1 a2 a3 a4 a5 a6 a7 a8 a9 a10 : Nat → Int32}
def fw_JI (R : Nat → List (Nat × Nat)) (r f g x y : Nat) (a7 a8 : Nat → Int32) : Prop := ∃ R', fw_rw a7 a8 R' ∧ (∀ q, q ≠ r → R' q = R q) ∧ fw_J (R r) (R f) (R g) x y (R' r)
theorem fw_j62 {R : Nat → List (Nat × Nat)} {r f g x : Nat} (hr : r < 49) (hf : f < 49) (hg : g < 49) (hfr : f ≠ r) (hgr : g ≠ r)
    (hc : ∀ s u, s ∈ R f → u ∈ R g → fw_cov (R r) (fw_plus s u) ∨ fw_sm (fw_plus s u)) (hx : x < (R f).length) (h0 : fw_JI R r f g x 0 a7 a8)
    (H : ∀ e b7 b8 b9, fw_JI R r f g (x + 1) 0 b7 b8 → J (nI (x + 1)) fl ft e a1 a2 a3 a4 a5 a6 b7 b8 b9 a10) :
    ∃ n, wX_joinOver_62 post J (nI r) (nI f) (nI g) (nI x) n 0 fl ft fg a1 a2 a3 a4 a5 a6 a7 a8 a9 a10 := by
  refine pk_loop (σ := Int32 × (Nat → Int32) × (Nat → Int32) × (Nat → Int32)) (fun n i u => wX_joinOver_62 post J (nI r) (nI f) (nI g) (nI x) n (nI i) fl ft u.1 a1 a2 a3 a4 a5 a6 u.2.1 u.2.2.1 u.2.2.2 a10)
    (fun i u => fw_JI R r f g x i u.2.1 u.2.2.1) (R g).length 0 (fg, a7, a8, a9) (by omega) h0 ?_ ?_
  · intro n ⟨e, b7, b8, b9⟩ ⟨R', h1, h2, h3⟩
    dsimp only at h1
    have hgl := (h1 g hg).2.1
    rw [h2 g hgr] at hgl
    have hn : (R g).length ≤ 19 := by
      have := fw_len (h1 g hg).1
      rw [h2 g hgr] at this
      exact this
    refine ⟨pk_in g 49 hg, pk_le (R g).length (R g).length (fun _ => ?_) (fun z => absurd z (by omega)) (by rw [nI_clamp (show g < 2 ^ 31 by omega)]; exact hgl)⟩
    exact nm_r (nI_1 x) (H e b7 b8 b9 ⟨R', h1, h2, fw_J_row h3⟩)
  · intro n i ⟨e, b7, b8, b9⟩ hi ⟨R', h1, h2, h3⟩ hw
    dsimp only at h1
    obtain ⟨k1, k2, k3⟩ := h1 g hg
    obtain ⟨m1, m2, m3⟩ := h1 f hf
    rw [h2 g hgr] at k1 k2 k3
    rw [h2 f hfr] at m1 m2 m3
    have hn := fw_len k1
    have hn' := fw_len m1
    obtain ⟨s, hs⟩ := fw_ix hx
    obtain ⟨u, hu⟩ := fw_ix hi
    have hsm := m1.2 s (List.mem_of_getElem? hs)
    have hum := k1.2 u (List.mem_of_getElem? hu)
    have e1 : (19 * nI f) + nI x = nI (19 * f + x) := by rw [show (19 : Int32) = nI 19 from rfl, pk_mul, nI_add]
    have e2 : (19 * nI g) + nI i = nI (19 * g + i) := by rw [show (19 : Int32) = nI 19 from rfl, pk_mul, nI_add]
    refine ⟨pk_in g 49 hg, pk_le (R g).length i (fun z => absurd z (by omega)) (fun _ => ⟨pk_in (19 * f + x) 931 (by omega) e1, pk_in (19 * g + i) 931 (by omega) e2, ?_⟩) (by rw [nI_clamp (show g < 2 ^ 31 by omega)]; exact k2)⟩
    refine fw_addSum (R := R') (s := fw_plus s u) rfl ?_ h1 hr ?_ ?_ ?_
    · dsimp only
      rw [e1, e2, nI_clamp (show 19 * f + x < 2 ^ 31 by omega), nI_clamp (show 19 * g + i < 2 ^ 31 by omega), m3 x s hs, k3 i u hu, nI_add, fw_cd_plus]
    · unfold fw_sm at hsm hum
      unfold fw_plus
      dsimp only
      omega
    · rcases hc s u (List.mem_of_getElem? hs) (List.mem_of_getElem? hu) with z | z
      · exact Or.inl (h3.2.1 _ z)
      · exact Or.inr z
    · intro e' b7' b8' b9' l g1 g2
      refine nm_r (nI_1 i) (hw (e', b7', b8', b9') ⟨_, g1, fw_put_id h2, ?_⟩)
      rw [fw_put_s]
      exact fw_J_st h3 hs hu g2
theorem fw_join {R : Nat → List (Nat × Nat)} {r m : Nat} (hR : fw_rw a7 a8 R) (hr : r < 49) (hm : m < 7)
    (hc : r / 7 ≠ m → r % 7 ≠ m → r % 8 ≠ 0 → ∀ s u, s ∈ R (7 * (r / 7) + m) → u ∈ R (7 * m + r % 7) → fw_cov (R r) (fw_plus s u) ∨ fw_sm (fw_plus s u))
    (H : ∀ e b7 b8 b9 R', fw_rw b7 b8 R' → (∀ q, q ≠ r → R' q = R q) → ((r / 7 = m ∨ r % 7 = m ∨ r % 8 = 0) → R' r = R r) →
      (r / 7 ≠ m → r % 7 ≠ m → r % 8 ≠ 0 → fw_J (R r) (R (7 * (r / 7) + m)) (R (7 * m + r % 7)) (R (7 * (r / 7) + m)).length 0 (R' r)) → post (fl, ft, e, a1, a2, a3, a4, a5, a6, b7, b8, b9, a10)) :
    wpX_joinOver post (fl, ft, fg, a1, a2, a3, a4, a5, a6, a7, a8, a9, a10) (nI r) (nI m) := by
  have d7 : nI r / 7 = nI (r / 7) := pk_div (d := 7) (by omega) (by omega) (by omega)
  have r7 : nI r - nI r / 7 * 7 = nI (r % 7) := pk_rem (d := 7) (by omega) (by omega) (by omega)
  have r8 : nI r - nI r / 8 * 8 = nI (r % 8) := pk_rem (d := 8) (by omega) (by omega) (by omega)
  have q1 : (7 * (nI r / 7)) + nI m = nI (7 * (r / 7) + m) := by rw [d7, fw_ix7]
  have q2 : (7 * nI m) + (nI r - nI r / 7 * 7) = nI (7 * m + r % 7) := by rw [r7, fw_ix7]
  have same : (r / 7 = m ∨ r % 7 = m ∨ r % 8 = 0) → post (fl, ft, fg, a1, a2, a3, a4, a5, a6, a7, a8, a9, a10) := by
    intro h
    exact H fg a7 a8 a9 R hR (fun _ _ => rfl) (fun _ => rfl) (fun z1 z2 z3 => absurd h (by omega))
  unfold wpX_joinOver
  dsimp only
  refine ⟨by decide, nm_r q1 ⟨by decide, nm_r q2 ⟨by decide, ?_⟩⟩⟩
  refine pk_eq (r / 7) m (fun z => same (Or.inl z)) (fun c1 => ⟨by decide, ?_⟩) d7
  refine pk_eq (r % 7) m (fun z => same (Or.inr (Or.inl z))) (fun c2 => ⟨by decide, ?_⟩) r7
  refine pk_eq (r % 8) 0 (fun z => same (Or.inr (Or.inr z))) (fun c3 => ?_) r8
  have hf : 7 * (r / 7) + m < 49 := by omega
  have hg : 7 * m + r % 7 < 49 := by omega
  have hfr : 7 * (r / 7) + m ≠ r := by omega
  have hgr : 7 * m + r % 7 ≠ r := by omega
  refine pk_loop (σ := Int32 × (Nat → Int32) × (Nat → Int32) × (Nat → Int32)) (fun n i u => wX_joinOver_48 post (nI r) (nI (7 * (r / 7) + m)) (nI (7 * m + r % 7)) n (nI i) fl ft u.1 a1 a2 a3 a4 a5 a6 u.2.1 u.2.2.1 u.2.2.2 a10)
    (fun i u => fw_JI R r (7 * (r / 7) + m) (7 * m + r % 7) i 0 u.2.1 u.2.2.1) (R (7 * (r / 7) + m)).length 0 (fg, a7, a8, a9) (by omega) ⟨R, hR, fun _ _ => rfl, fw_J_0 _ _ _⟩ ?_ ?_
  · intro n ⟨e, b7, b8, b9⟩ ⟨R', h1, h2, h3⟩
    dsimp only at h1
    obtain ⟨m1, m2, m3⟩ := h1 _ hf
    rw [h2 _ hfr] at m1 m2 m3
    have hn := fw_len m1
    refine ⟨pk_in _ 49 hf, pk_le (R (7 * (r / 7) + m)).length (R (7 * (r / 7) + m)).length (fun _ => ?_) (fun z => absurd z (by omega)) (by rw [nI_clamp (show 7 * (r / 7) + m < 2 ^ 31 by omega)]; exact m2)⟩
    exact H e b7 b8 b9 R' h1 h2 (fun z => absurd z (by omega)) (fun _ _ _ => h3)
  · intro n i ⟨e, b7, b8, b9⟩ hi h hw
    have h' := h
    obtain ⟨R', h1, h2, h3⟩ := h'
    dsimp only at h1
    obtain ⟨m1, m2, m3⟩ := h1 _ hf
    rw [h2 _ hfr] at m1 m2 m3
    have hn := fw_len m1
    refine ⟨pk_in _ 49 hf, pk_le (R (7 * (r / 7) + m)).length i (fun z => absurd z (by omega)) (fun _ => ?_) (by rw [nI_clamp (show 7 * (r / 7) + m < 2 ^ 31 by omega)]; exact m2)⟩
    exact fw_j62 hr hf hg hfr hgr (hc c1 c2 c3) hi h (fun e' b7' b8' b9' h4 => hw (e', b7', b8', b9') h4)
end
end
section
/-! one stage of the table; rebuild -/
theorem fw_r78 {r : Nat} (hr : r < 49) (h : ¬ r % 8 = 0) : r / 7 ≠ r % 7 := by omega
theorem fw_stage_c {E : Nat → Nat → Nat × Nat → Prop} (hE : ∀ i j s, E i j s → s.1 ≤ 3 ∧ s.2 ≤ 3) {k r : Nat} {R : Nat → List (Nat × Nat)} (hk : k < 7) (hr : r < 49) (hG : ∀ q, q < 49 → fw_gr E k q (R q))
    (c1 : r / 7 ≠ k) (c2 : r % 7 ≠ k) (c3 : r % 8 ≠ 0) : ∀ s u, s ∈ R (7 * (r / 7) + k) → u ∈ R (7 * k + r % 7) → fw_cov (R r) (fw_plus s u) ∨ fw_sm (fw_plus s u) := by
  intro s u hs hu
  have h1 := (hG (7 * (r / 7) + k) (by omega)).2 (by omega)
  have h2 := (hG (7 * k + r % 7) (by omega)).2 (by omega)
  have h3 := (hG r hr).2 c3
  rw [show (7 * (r / 7) + k) / 7 = r / 7 by omega, show (7 * (r / 7) + k) % 7 = k by omega] at h1
  rw [show (7 * k + r % 7) / 7 = k by omega, show (7 * k + r % 7) % 7 = r % 7 by omega] at h2
  rcases fw_cand c1 c2 h1.1 h2.1 h3.2 hs hu with z | ⟨w, z1, z2, z3⟩
  · exact Or.inl z
  · exact Or.inr (fw_snd_sm hE (k := k + 1) (by omega) (by omega) (by omega) (fw_r78 hr c3) z1 z2 z3)
theorem fw_stage_r {E : Nat → Nat → Nat × Nat → Prop} {k r : Nat} {R : Nat → List (Nat × Nat)} {l : List (Nat × Nat)} (hk : k < 7) (hr : r < 49) (hG : ∀ q, q < 49 → fw_gr E k q (R q))
    (hs : (r / 7 = k ∨ r % 7 = k ∨ r % 8 = 0) → l = R r)
    (hJ : r / 7 ≠ k → r % 7 ≠ k → r % 8 ≠ 0 → fw_J (R r) (R (7 * (r / 7) + k)) (R (7 * k + r % 7)) (R (7 * (r / 7) + k)).length 0 l) : fw_gr E (k + 1) r l := by
  constructor
  · intro z
    rw [hs (Or.inr (Or.inr z))]
    exact (hG r hr).1 z
  · intro z
    have h3 := (hG r hr).2 z
    by_cases c1 : r / 7 = k
    · rw [hs (Or.inl c1)]
      refine ⟨fw_snd_m h3.1, ?_⟩
      have h4 := h3.2
      rw [c1] at h4 ⊢
      exact fw_cmp_i h4
    · by_cases c2 : r % 7 = k
      · rw [hs (Or.inr (Or.inl c2))]
        refine ⟨fw_snd_m h3.1, ?_⟩
        have h4 := h3.2
        rw [c2] at h4 ⊢
        exact fw_cmp_j h4
      · have h1 := (hG (7 * (r / 7) + k) (by omega)).2 (by omega)
        have h2 := (hG (7 * k + r % 7) (by omega)).2 (by omega)
        rw [show (7 * (r / 7) + k) / 7 = r / 7 by omega, show (7 * (r / 7) + k) % 7 = k by omega] at h1
        rw [show (7 * k + r % 7) / 7 = k by omega, show (7 * k + r % 7) % 7 = r % 7 by omega] at h2
        exact fw_J_end c1 c2 h1.1 h2.1 h1.2 h2.2 h3.1 h3.2 (hJ c1 c2 z)
def fw_E (a1 a2 a3 a4 : Nat → Int32) (n : Nat) (i j : Nat) (s : Nat × Nat) : Prop := ∃ k, k < n ∧ a1 k = nI i ∧ a2 k = nI j ∧ a3 k = nI s.1 ∧ a4 k = nI s.2 ∧ s.1 ≤ 3 ∧ s.2 ≤ 3
theorem fw_E_b {a1 a2 a3 a4 : Nat → Int32} {n : Nat} : ∀ i j s, fw_E a1 a2 a3 a4 n i j s → s.1 ≤ 3 ∧ s.2 ≤ 3 := by
  intro i j s ⟨k, _, _, _, _, _, h⟩
  exact h
def fw_ln (nl : Nat) (a1 a2 a3 a4 : Nat → Int32) : Prop := nl ≤ 12 ∧ ∀ k, k < nl → ∃ i j p q, i < 7 ∧ j < 7 ∧ p ≤ 3 ∧ q ≤ 3 ∧ a1 k = nI i ∧ a2 k = nI j ∧ a3 k = nI p ∧ a4 k = nI q
def fw_dg (R : Nat → List (Nat × Nat)) : Prop := ∀ r, r < 49 → r % 8 = 0 → R r = [(0, 0)]
/-- the table over the first n lines, ways of one line alone -/
def fw_g0 (E : Nat → Nat → Nat × Nat → Prop) (r : Nat) (l : List (Nat × Nat)) : Prop := (r % 8 = 0 → l = [(0, 0)]) ∧ (¬ r % 8 = 0 → (∀ s, s ∈ l → E (r / 7) (r % 7) s) ∧ ∀ s, E (r / 7) (r % 7) s → fw_cov l s)
theorem fw_g0_gr {E : Nat → Nat → Nat × Nat → Prop} {r : Nat} {l : List (Nat × Nat)} (h : fw_g0 E r l) : fw_gr E 0 r l := by
  refine ⟨h.1, fun z => ⟨fun s hs => ⟨[], (h.2 z).1 s hs, List.nodup_nil, fun v hv => absurd hv List.not_mem_nil⟩, fun w s hw hb => ?_⟩⟩
  cases w with
  | nil => exact (h.2 z).2 s hw
  | cons v w => exact absurd (hb v (List.mem_cons_self ..)) (by omega)
section
variable {post : St1 → Prop} {fl ft fg : Int32} {a1 a2 a3 a4 a5 a6 a7 a8 a9 a10 : Nat → Int32}
theorem fw_167 {R : Nat → List (Nat × Nat)} {nt : Nat} (hR : fw_rw a7 a8 R) (ht : fw_tk nt a5 a6) (h10 : ∀ x, x < 1792 → a10 x = 0)
    (H : ∀ b, fw_mk R nt a5 a6 b → post (fl, nI nt, fg, a1, a2, a3, a4, a5, a6, a7, a8, a9, b)) :
    ∃ n, wX_rebuild_167 post n 0 fl (nI nt) fg a1 a2 a3 a4 a5 a6 a7 a8 a9 a10 := by
  have hnt := ht.1
  refine pk_loop (fun n i s => wX_rebuild_167 post n (nI i) fl (nI nt) fg a1 a2 a3 a4 a5 a6 a7 a8 a9 s) (fun i s => fw_mk R i a5 a6 s) nt 0 a10 (by omega) ?_ ?_ ?_
  · intro x hx
    rw [h10 x hx]
    rfl
  · intro n s h
    exact pk_le nt nt (fun _ => H s h) (fun z => absurd z (by omega))
  · intro n i s hi h hw
    obtain ⟨p, t, h1, h2, h3, h4⟩ := ht.2 i hi
    have hc : (nI i).toNatClampNeg = i := nI_clamp (by omega)
    refine pk_le nt i (fun z => absurd z (by omega)) (fun _ => ⟨pk_in i 20 (by omega), pk_in i 20 (by omega), ?_⟩)
    refine fw_count (by rw [hc]; exact h3) (by rw [hc]; exact h4) hR h1 h2 (fun b hb => nm_r (nI_1 i) (hw b (fun x hx => ?_)))
    rw [hb x, h x hx, Int32.one_mul, nI_add]
    show nI (fw_tot R a5 a6 x i + fw_c7 R p t x 7) = nI (fw_tot R a5 a6 x i + fw_c7 R (a5 i).toNatClampNeg (a6 i).toNatClampNeg x 7)
    rw [h3, h4, nI_clamp (show p < 2 ^ 31 by omega), nI_clamp (show t < 2 ^ 31 by omega)]
theorem fw_145 {R : Nat → List (Nat × Nat)} {nt : Nat} (hR : fw_rw a7 a8 R) (ht : fw_tk nt a5 a6)
    (H : ∀ b, fw_mk R nt a5 a6 b → post (fl, nI nt, fg, a1, a2, a3, a4, a5, a6, a7, a8, a9, b)) :
    ∃ n, wX_rebuild_145 post fl (nI nt) fg n 0 a1 a2 a3 a4 a5 a6 a7 a8 a9 a10 := by
  refine pk_loop (fun n i s => wX_rebuild_145 post fl (nI nt) fg n (nI i) a1 a2 a3 a4 a5 a6 a7 a8 a9 s) (fun i s => ∀ x, x < i → s x = 0) 1792 0 a10 (by omega) (fun x hx => absurd hx (by omega)) ?_ ?_
  · intro n s h
    exact pk_le 1792 1792 (fun _ => fw_167 hR ht h H) (fun z => absurd z (by omega))
  · intro n i s hi h hw
    refine pk_le 1792 i (fun z => absurd z (by omega)) (fun _ => ⟨pk_in i 1792 hi, nm_e (nm_r (nI_1 i) (hw _ (fun x hx => ?_)))⟩)
    rw [nI_clamp (show i < 2 ^ 31 by omega)]
    by_cases e : x = i
    · rw [e, pk_us]
    · rw [pk_un e]
      exact h x (by omega)
def fw_TI (E : Nat → Nat → Nat × Nat → Prop) (k : Nat) (a7 a8 : Nat → Int32) : Prop := ∃ R, fw_rw a7 a8 R ∧ ∀ r, r < 49 → fw_gr E k r (R r)
theorem fw_119 {E : Nat → Nat → Nat × Nat → Prop} (hE : ∀ i j s, E i j s → s.1 ≤ 3 ∧ s.2 ≤ 3) {J : Int32 → Int32 → Int32 → Int32 → (Nat → Int32) → (Nat → Int32) → (Nat → Int32) → (Nat → Int32) → (Nat → Int32) → (Nat → Int32) → (Nat → Int32) → (Nat → Int32) → (Nat → Int32) → (Nat → Int32) → Prop} {m : Nat} (hm : m < 7) (h0 : fw_TI E m a7 a8)
    (H : ∀ e b7 b8 b9, fw_TI E (m + 1) b7 b8 → J (nI (m + 1)) fl ft e a1 a2 a3 a4 a5 a6 b7 b8 b9 a10) :
    ∃ n, wX_rebuild_119 post J (nI m) n 0 fl ft fg a1 a2 a3 a4 a5 a6 a7 a8 a9 a10 := by
  obtain ⟨R0, hR0, hG⟩ := h0
  refine pk_loop (σ := Int32 × (Nat → Int32) × (Nat → Int32) × (Nat → Int32)) (fun n i u => wX_rebuild_119 post J (nI m) n (nI i) fl ft u.1 a1 a2 a3 a4 a5 a6 u.2.1 u.2.2.1 u.2.2.2 a10)
    (fun i u => ∃ R, fw_rw u.2.1 u.2.2.1 R ∧ (∀ r, r < i → fw_gr E (m + 1) r (R r)) ∧ (∀ r, i ≤ r → R r = R0 r) ∧ ∀ r, (r / 7 = m ∨ r % 7 = m ∨ r % 8 = 0) → R r = R0 r) 49 0 (fg, a7, a8, a9) (by omega)
    ⟨R0, hR0, fun r hr => absurd hr (by omega), fun _ _ => rfl, fun _ _ => rfl⟩ ?_ ?_
  · intro n ⟨e, b7, b8, b9⟩ ⟨R, h1, h2, h3, h4⟩
    exact pk_le 49 49 (fun _ => nm_r (nI_1 m) (H e b7 b8 b9 ⟨R, h1, h2⟩)) (fun z => absurd z (by omega))
  · intro n i ⟨e, b7, b8, b9⟩ hi ⟨R, h1, h2, h3, h4⟩ hw
    have q1 : R (7 * (i / 7) + m) = R0 (7 * (i / 7) + m) := h4 _ (Or.inr (Or.inl (by omega)))
    have q2 : R (7 * m + i % 7) = R0 (7 * m + i % 7) := h4 _ (Or.inl (by omega))
    have q3 : R i = R0 i := h3 i (Nat.le_refl i)
    refine pk_le 49 i (fun z => absurd z (by omega)) (fun _ => fw_join (R := R) h1 hi hm ?_ ?_)
    · intro c1 c2 c3
      rw [q1, q2, q3]
      exact fw_stage_c hE hm hi hG c1 c2 c3
    · intro e' b7' b8' b9' R' g1 g2 g3 g4
      rw [q3] at g3
      rw [q1, q2, q3] at g4
      refine nm_r (nI_1 i) (hw (e', b7', b8', b9') ⟨R', g1, fun r hr => ?_, fun r hr => ?_, fun r hr => ?_⟩)
      · by_cases c : r = i
        · rw [c]
          exact fw_stage_r hm hi hG g3 g4
        · rw [g2 r c]
          exact h2 r (by omega)
      · rw [g2 r (by omega)]
        exact h3 r (by omega)
      · by_cases c : r = i
        · rw [c] at hr ⊢
          exact g3 hr
        · rw [g2 r c]
          exact h4 r hr
theorem fw_111 {E : Nat → Nat → Nat × Nat → Prop} (hE : ∀ i j s, E i j s → s.1 ≤ 3 ∧ s.2 ≤ 3) {nt : Nat} (ht : fw_tk nt a5 a6) (h0 : fw_TI E 0 a7 a8)
    (H : ∀ e b7 b8 b9 b10 R, fw_rw b7 b8 R → (∀ r, r < 49 → fw_gr E 7 r (R r)) → fw_mk R nt a5 a6 b10 → post (fl, nI nt, e, a1, a2, a3, a4, a5, a6, b7, b8, b9, b10)) :
    ∃ n, wX_rebuild_111 post n 0 fl (nI nt) fg a1 a2 a3 a4 a5 a6 a7 a8 a9 a10 := by
  refine pk_loop (σ := Int32 × (Nat → Int32) × (Nat → Int32) × (Nat → Int32)) (fun n i u => wX_rebuild_111 post n (nI i) fl (nI nt) u.1 a1 a2 a3 a4 a5 a6 u.2.1 u.2.2.1 u.2.2.2 a10)
    (fun i u => fw_TI E i u.2.1 u.2.2.1) 7 0 (fg, a7, a8, a9) (by omega) h0 ?_ ?_
  · intro n ⟨e, b7, b8, b9⟩ ⟨R, h1, h2⟩
    exact pk_le 7 7 (fun _ => fw_145 h1 ht (fun b hb => H e b7 b8 b9 b R h1 h2 hb)) (fun z => absurd z (by omega))
  · intro n i ⟨e, b7, b8, b9⟩ hi h hw
    exact pk_le 7 i (fun z => absurd z (by omega)) (fun _ => fw_119 hE hi h (fun e' b7' b8' b9' h' => hw (e', b7', b8', b9') h'))
def fw_LI (a1 a2 a3 a4 : Nat → Int32) (n : Nat) (a7 a8 : Nat → Int32) : Prop := ∃ R, fw_rw a7 a8 R ∧ ∀ r, r < 49 → fw_g0 (fw_E a1 a2 a3 a4 n) r (R r)
theorem fw_E_m {n i j : Nat} {s : Nat × Nat} (h : fw_E a1 a2 a3 a4 n i j s) : fw_E a1 a2 a3 a4 (n + 1) i j s := by
  obtain ⟨k, hk, h⟩ := h
  exact ⟨k, by omega, h⟩
theorem fw_E_s {n i j : Nat} {s : Nat × Nat} (h : fw_E a1 a2 a3 a4 (n + 1) i j s) : fw_E a1 a2 a3 a4 n i j s ∨ a1 n = nI i ∧ a2 n = nI j ∧ a3 n = nI s.1 ∧ a4 n = nI s.2 ∧ s.1 ≤ 3 ∧ s.2 ≤ 3 := by
  obtain ⟨k, hk, h⟩ := h
  by_cases e : k = n
  · rw [e] at h
    exact Or.inr h
  · exact Or.inl ⟨k, by omega, h⟩
theorem fw_nI_inj {a b : Nat} (h : nI a = nI b) (ha : a < 2 ^ 31) (hb : b < 2 ^ 31) : a = b := (nI_eq ha hb).mp h
theorem fw_44 {nl nt : Nat} (hl : fw_ln nl a1 a2 a3 a4) (ht : fw_tk nt a5 a6) (h0 : fw_LI a1 a2 a3 a4 0 a7 a8)
    (H : ∀ e b7 b8 b9 b10 R, fw_rw b7 b8 R → (∀ r, r < 49 → fw_gr (fw_E a1 a2 a3 a4 nl) 7 r (R r)) → fw_mk R nt a5 a6 b10 → post (nI nl, nI nt, e, a1, a2, a3, a4, a5, a6, b7, b8, b9, b10)) :
    ∃ n, wX_rebuild_44 post n 0 (nI nl) (nI nt) fg a1 a2 a3 a4 a5 a6 a7 a8 a9 a10 := by
  have hnl := hl.1
  refine pk_loop (σ := Int32 × (Nat → Int32) × (Nat → Int32) × (Nat → Int32)) (fun n i u => wX_rebuild_44 post n (nI i) (nI nl) (nI nt) u.1 a1 a2 a3 a4 a5 a6 u.2.1 u.2.2.1 u.2.2.2 a10)
    (fun i u => fw_LI a1 a2 a3 a4 i u.2.1 u.2.2.1) nl 0 (fg, a7, a8, a9) (by omega) h0 ?_ ?_
  · intro n ⟨e, b7, b8, b9⟩ ⟨R, h1, h2⟩
    exact pk_le nl nl (fun _ => fw_111 (E := fw_E a1 a2 a3 a4 nl) fw_E_b ht ⟨R, h1, fun r hr => fw_g0_gr (h2 r hr)⟩ H) (fun z => absurd z (by omega))
  · intro n k ⟨e, b7, b8, b9⟩ hk ⟨R, h1, h2⟩ hw
    obtain ⟨i, j, p, q, l1, l2, l3, l4, l5, l6, l7, l8⟩ := hl.2 k hk
    have hc : (nI k).toNatClampNeg = k := nI_clamp (by omega)
    refine pk_le nl k (fun z => absurd z (by omega)) (fun _ => ⟨pk_in k 12 (by omega), pk_in k 12 (by omega), ?_⟩)
    refine pk_eq i j (fun z => ?_) (fun z => ⟨pk_in k 12 (by omega), pk_in k 12 (by omega), pk_in k 12 (by omega), pk_in k 12 (by omega), ?_⟩) (by rw [hc]; exact l5) (by rw [hc]; exact l6)
    · refine nm_r (nI_1 k) (hw (e, b7, b8, b9) ⟨R, h1, fun r hr => ⟨(h2 r hr).1, fun c => ⟨fun s hs => fw_E_m (((h2 r hr).2 c).1 s hs), fun s hs => ?_⟩⟩⟩)
      rcases fw_E_s hs with g | g
      · exact ((h2 r hr).2 c).2 s g
      · have g1 := fw_nI_inj (l5.symm.trans g.1) (by omega) (by omega)
        have g2 := fw_nI_inj (l6.symm.trans g.2.1) (by omega) (by omega)
        have := fw_r78 hr c
        omega
    · refine fw_addSum (R := R) (r := 7 * i + j) (s := (p, q)) (by rw [hc, l5, l6, fw_ix7]) ?_ h1 (by omega) ⟨by dsimp only; omega, by dsimp only; omega⟩ (Or.inr ⟨by dsimp only; omega, by dsimp only; omega⟩) ?_
      · rw [hc, l7, l8, show (64 : Int32) = nI 64 from rfl, pk_mul, nI_add]
        rfl
      · intro e' b7' b8' b9' l g1 ⟨i1, i2, i3⟩
        refine nm_r (nI_1 k) (hw (e', b7', b8', b9') ⟨_, g1, fun r hr => ?_⟩)
        by_cases c : r = 7 * i + j
        · rw [c, fw_put_s]
          have h3 := h2 (7 * i + j) (by omega)
          refine ⟨fun d => absurd d (by omega), fun d => ?_⟩
          have h4 := h3.2 d
          rw [show (7 * i + j) / 7 = i by omega, show (7 * i + j) % 7 = j by omega] at h4 ⊢
          refine ⟨fun s hs => ?_, fun s hs => ?_⟩
          · rcases i1 s hs with y | y
            · exact fw_E_m (h4.1 s y)
            · rw [y.1]
              exact ⟨k, by omega, l5, l6, l7, l8, l3, l4⟩
          · rcases fw_E_s hs with y | y
            · exact i2 s (h4.2 s y)
            · have y1 := fw_nI_inj (l7.symm.trans y.2.2.1) (by omega) (by omega)
              have y2 := fw_nI_inj (l8.symm.trans y.2.2.2.1) (by omega) (by omega)
              rw [show s = (p, q) from Prod.ext y1.symm y2.symm]
              exact i3
        · rw [fw_put_n c]
          have h3 := h2 r hr
          refine ⟨h3.1, fun d => ⟨fun s hs => fw_E_m ((h3.2 d).1 s hs), fun s hs => ?_⟩⟩
          rcases fw_E_s hs with y | y
          · exact (h3.2 d).2 s y
          · have y1 := fw_nI_inj (l5.symm.trans y.1) (by omega) (by omega)
            have y2 := fw_nI_inj (l6.symm.trans y.2.1) (by omega) (by omega)
            exact absurd (show r = 7 * i + j by omega) c
def fw_R0 (r : Nat) : List (Nat × Nat) := if r % 8 = 0 then [(0, 0)] else []
theorem fw_R0_rw (h : ∀ r, r < 49 → a7 r = nI (fw_R0 r).length ∧ a8 (19 * r) = 0) : fw_rw a7 a8 fw_R0 := by
  intro r hr
  obtain ⟨h1, h2⟩ := h r hr
  refine ⟨?_, h1, fun j e he => ?_⟩
  · unfold fw_R0
    split
    · exact fw_ok1
    · exact fw_ok0
  · unfold fw_R0 at he
    split at he
    · cases j with
      | zero =>
        have he' : (0, 0) = e := Option.some.inj he
        rw [← he']
        exact h2
      | succ j => simp at he
    · simp at he
theorem fw_rebuild {nl nt : Nat} (hl : fw_ln nl a1 a2 a3 a4) (ht : fw_tk nt a5 a6)
    (H : ∀ e b7 b8 b9 b10 R, fw_rw b7 b8 R → fw_dg R → (∀ i j s, i < 7 → j < 7 → i ≠ j → fw_E a1 a2 a3 a4 nl i j s → 0 < (R (7 * i + j)).length) → fw_mk R nt a5 a6 b10 → post (nI nl, nI nt, e, a1, a2, a3, a4, a5, a6, b7, b8, b9, b10)) :
    wpX_rebuild post (nI nl, nI nt, fg, a1, a2, a3, a4, a5, a6, a7, a8, a9, a10) := by
  unfold wpX_rebuild
  dsimp only
  refine pk_loop (σ := (Nat → Int32) × (Nat → Int32)) (fun n i u => wX_rebuild_2 post (nI nl) (nI nt) fg n (nI i) a1 a2 a3 a4 a5 a6 u.1 u.2 a9 a10)
    (fun i u => ∀ r, r < i → u.1 r = nI (fw_R0 r).length ∧ u.2 (19 * r) = 0) 49 0 (a7, a8) (by omega) (fun r hr => absurd hr (by omega)) ?_ ?_
  · intro n ⟨b7, b8⟩ h
    refine pk_le 49 49 (fun _ => ?_) (fun z => absurd z (by omega))
    refine fw_44 hl ht ⟨fw_R0, fw_R0_rw h, fun r hr => ⟨fun c => if_pos c, fun c => ⟨fun s hs => ?_, fun s hs => ?_⟩⟩⟩ ?_
    · rw [show fw_R0 r = [] from if_neg c] at hs
      exact absurd hs List.not_mem_nil
    · obtain ⟨k, hk, _⟩ := hs
      exact absurd hk (by omega)
    · intro e c7 c8 c9 c10 R g1 g2 g3
      refine H e c7 c8 c9 c10 R g1 (fun r hr d => (g2 r hr).1 d) (fun i j s hi hj hij hs => ?_) g3
      have g4 := ((g2 (7 * i + j) (by omega)).2 (by omega)).2
      rw [show (7 * i + j) / 7 = i by omega, show (7 * i + j) % 7 = j by omega] at g4
      obtain ⟨t, ht, _⟩ := g4 [] s hs (fun v hv => absurd hv List.not_mem_nil)
      exact List.length_pos_of_mem ht
  · intro n i ⟨b7, b8⟩ hi h hw
    have r8 : nI i - nI i / 8 * 8 = nI (i % 8) := pk_rem (d := 8) (by omega) (by omega) (by omega)
    have hs : ∀ z : Int32, z = nI (fw_R0 i).length → wX_rebuild_25 post (wX_rebuild_2 post (nI nl) (nI nt) fg n) (nI i) z (nI i) (nI nl) (nI nt) fg a1 a2 a3 a4 a5 a6 b7 b8 a9 a10 := by
      intro z hz
      have e19 : (19 : Int32) * nI i = nI (19 * i) := pk_mul 19 i
      unfold wX_rebuild_25
      rw [e19, nI_clamp (show i < 2 ^ 31 by omega), nI_clamp (show 19 * i < 2 ^ 31 by omega)]
      refine ⟨pk_in i 49 hi, nm_e ⟨pk_in (19 * i) 931 (by omega), nm_e (nm_r (nI_1 i) (hw (upd b7 i z, upd b8 (19 * i) 0) (fun r hr => ?_)))⟩⟩
      dsimp only
      by_cases c : r = i
      · rw [c, pk_us, pk_us]
        exact ⟨hz, rfl⟩
      · rw [pk_un c, pk_un (by omega)]
        exact h r (by omega)
    refine pk_le 49 i (fun z => absurd z (by omega)) (fun _ => ⟨by decide, ?_⟩)
    refine pk_eq (i % 8) 0 (fun z => hs 1 ?_) (fun z => hs 0 ?_) r8
    · rw [show fw_R0 i = [(0, 0)] from if_pos z]
      rfl
    · rw [show fw_R0 i = [] from if_neg z]
      rfl
end
end
section
/-! places, times, marks, front -/
def fw_pl (x : Int32) : Prop := ∃ n, n < 7 ∧ x = nI n
def fw_tm (x : Int32) : Prop := ∃ n, n < 16 ∧ x = nI n
theorem fw_rg0 {x : Int32} {N : Nat} (h : x < 0) (hN : N < 2 ^ 31) : ¬ ∃ n, n < N ∧ x = nI n := by
  intro ⟨n, h1, h2⟩
  rw [h2] at h
  exact nI_pos (by omega) h
theorem fw_rg1 {x y : Int32} {N : Nat} (hy : y = nI N) (h : y < x) (hN : N < 2 ^ 30) : ¬ ∃ n, n < N + 1 ∧ x = nI n := by
  intro ⟨n, h1, h2⟩
  rw [h2, hy] at h
  have := (nI_ltI (by omega) (by omega)).mp h
  omega
theorem fw_rg2 {x y : Int32} {N : Nat} (hy : y = nI N) (h0 : ¬ x < 0) (h : ¬ y < x) (hN : N < 2 ^ 30) : ∃ n, n < N + 1 ∧ x = nI n := by
  obtain ⟨j, h1, h2⟩ := nI_of h0
  rw [h2, hy] at h
  have : ¬ N < j := fun z => h ((nI_ltI (by omega) (by omega)).mpr z)
  exact ⟨j, by omega, h2⟩
theorem fw_isPlace {post : Int32 → Prop} {x : Int32} (H0 : ¬ fw_pl x → post 0) (H1 : fw_pl x → post 1) : wpX_isPlace post () x :=
  br_c (fun z => H0 (fw_rg0 z (by omega))) (fun z => br_c (fun y => H0 (fw_rg1 (N := 6) rfl y (by omega))) (fun y => H1 (fw_rg2 (N := 6) rfl z y (by omega))))
theorem fw_isTime {post : Int32 → Prop} {x y : Int32} (H0 : ¬ (fw_tm x ∧ fw_tm y) → post 0) (H1 : fw_tm x → fw_tm y → post 1) : wpX_isTime post () x y :=
  br_c (fun z => H0 (fun q => fw_rg0 z (by omega) q.1)) (fun z1 => br_c (fun z => H0 (fun q => fw_rg1 (N := 15) rfl z (by omega) q.1)) (fun z2 =>
    br_c (fun z => H0 (fun q => fw_rg0 z (by omega) q.2)) (fun z3 => br_c (fun z => H0 (fun q => fw_rg1 (N := 15) rfl z (by omega) q.2)) (fun z4 => H1 (fw_rg2 (N := 15) rfl z1 z2 (by omega)) (fw_rg2 (N := 15) rfl z3 z4 (by omega))))))
/-- the least b below n with a mark at o + b, or n -/
def fw_fm (c : Nat → Int32) (o : Nat) : Nat → Nat
  | 0 => 0
  | n + 1 => if fw_fm c o n < n then fw_fm c o n else if c (o + n) ≤ 0 then n + 1 else n
theorem fw_fm_p (c : Nat → Int32) (o n : Nat) : fw_fm c o n ≤ n ∧ (∀ b, b < fw_fm c o n → c (o + b) ≤ 0) ∧ (fw_fm c o n < n → ¬ c (o + fw_fm c o n) ≤ 0) := by
  induction n with
  | zero => exact ⟨Nat.le_refl _, fun b hb => absurd hb (by simp [fw_fm]), fun h => absurd h (by omega)⟩
  | succ n ih =>
    obtain ⟨h1, h2, h3⟩ := ih
    by_cases g : fw_fm c o n < n
    · have e : fw_fm c o (n + 1) = fw_fm c o n := by
        show (if fw_fm c o n < n then fw_fm c o n else if c (o + n) ≤ 0 then n + 1 else n) = _
        rw [if_pos g]
      rw [e]
      exact ⟨by omega, h2, fun _ => h3 g⟩
    · have hn : fw_fm c o n = n := by omega
      rw [hn] at h2
      by_cases k : c (o + n) ≤ 0
      · have e : fw_fm c o (n + 1) = n + 1 := by
          show (if fw_fm c o n < n then fw_fm c o n else if c (o + n) ≤ 0 then n + 1 else n) = _
          rw [if_neg g, if_pos k]
        rw [e]
        refine ⟨Nat.le_refl _, fun b hb => ?_, fun z => absurd z (by omega)⟩
        by_cases q : b = n
        · rw [q]
          exact k
        · exact h2 b (by omega)
      · have e : fw_fm c o (n + 1) = n := by
          show (if fw_fm c o n < n then fw_fm c o n else if c (o + n) ≤ 0 then n + 1 else n) = _
          rw [if_neg g, if_neg k]
        rw [e]
        exact ⟨by omega, h2, fun _ => k⟩
def fw_bst (c : Nat → Int32) (p : Nat) : Nat → Nat
  | 0 => 16
  | a + 1 => fw_fm c (256 * p + 16 * a) (fw_bst c p a)
def fw_dn (c : Nat → Int32) (p a : Nat) : Nat := if fw_bst c p (a + 1) < fw_bst c p a then 1 else 0
def fw_nf (c : Nat → Int32) (p k : Nat) : Nat := fw_S (fw_dn c p) k
/-- some time up to (a, b) is marked at p -/
def fw_ps (c : Nat → Int32) (p a b : Nat) : Prop := ∃ x, x ≤ a ∧ ∃ y, y ≤ b ∧ ¬ c (256 * p + 16 * x + y) ≤ 0
theorem fw_bst_s (c : Nat → Int32) (p a : Nat) : fw_bst c p (a + 1) ≤ fw_bst c p a := (fw_fm_p c (256 * p + 16 * a) (fw_bst c p a)).1
theorem fw_bst_16 (c : Nat → Int32) (p a : Nat) : fw_bst c p a ≤ 16 := by
  induction a with
  | zero => exact Nat.le_refl _
  | succ a ih => exact Nat.le_trans (fw_bst_s c p a) ih
theorem fw_bst_iff (c : Nat → Int32) (p k b : Nat) (hb : b < 16) : fw_bst c p k ≤ b ↔ ∃ x, x < k ∧ ∃ y, y ≤ b ∧ ¬ c (256 * p + 16 * x + y) ≤ 0 := by
  induction k with
  | zero => exact ⟨fun h => absurd h (by show ¬ 16 ≤ b; omega), fun ⟨x, h, _⟩ => absurd h (by omega)⟩
  | succ k ih =>
    obtain ⟨h1, h2, h3⟩ := fw_fm_p c (256 * p + 16 * k) (fw_bst c p k)
    have e : fw_bst c p (k + 1) = fw_fm c (256 * p + 16 * k) (fw_bst c p k) := rfl
    rw [← e] at h1 h2 h3
    constructor
    · intro h
      by_cases g : fw_bst c p (k + 1) < fw_bst c p k
      · exact ⟨k, by omega, _, h, h3 g⟩
      · obtain ⟨x, q1, q2⟩ := ih.mp (by omega)
        exact ⟨x, by omega, q2⟩
    · intro ⟨x, q1, y, q2, q3⟩
      by_cases g : x = k
      · rw [g] at q3
        rcases Nat.lt_or_ge y (fw_bst c p (k + 1)) with z | z
        · exact absurd (h2 y z) q3
        · omega
      · have := ih.mpr ⟨x, by omega, y, q2, q3⟩
        omega
theorem fw_ps_iff (c : Nat → Int32) (p a b : Nat) (hb : b < 16) : fw_ps c p a b ↔ fw_bst c p (a + 1) ≤ b := by
  rw [fw_bst_iff c p (a + 1) b hb]
  constructor
  · intro ⟨x, h, g⟩
    exact ⟨x, by omega, g⟩
  · intro ⟨x, h, g⟩
    exact ⟨x, by omega, g⟩
section
variable {post : Int32 → Prop} {fl ft fg : Int32} {a1 a2 a3 a4 a5 a6 a7 a8 a9 a10 : Nat → Int32}
theorem fw_first {p a l : Nat} (hp : p < 7) (ha : a < 16) (hl : l ≤ 16) (H : post (nI (fw_fm a10 (256 * p + 16 * a) l))) :
    wpX_firstMark post (fl, ft, fg, a1, a2, a3, a4, a5, a6, a7, a8, a9, a10) (nI p) (nI a) (nI l) := by
  obtain ⟨h1, h2, h3⟩ := fw_fm_p a10 (256 * p + 16 * a) l
  unfold wpX_firstMark
  dsimp only
  refine pk_loop (σ := Unit) (fun n i _ => wX_firstMark_3 post (nI p) (nI a) (nI l) fl ft fg a1 a2 a3 a4 a5 a6 a7 a8 a9 a10 n (nI i)) (fun _ _ => True) (fw_fm a10 (256 * p + 16 * a) l) 0 () (by omega) trivial ?_ ?_
  · intro n _ _
    refine pk_le l (fw_fm a10 (256 * p + 16 * a) l) (fun z => ?_) (fun z => ⟨pk_in (256 * p + 16 * a + fw_fm a10 (256 * p + 16 * a) l) 1792 (by omega) (fw_ix3 _ _ _), br_f ?_ H⟩)
    · rw [show fw_fm a10 (256 * p + 16 * a) l = l by omega] at H
      exact H
    · rw [fw_ix3, nI_clamp (by omega)]
      exact h3 z
  · intro n i _ hi _ hw
    refine pk_le l i (fun z => absurd z (by omega)) (fun z => ⟨pk_in (256 * p + 16 * a + i) 1792 (by omega) (fw_ix3 _ _ _), br_t ?_ (nm_r (nI_1 i) (hw () trivial))⟩)
    rw [fw_ix3, nI_clamp (by omega)]
    exact h2 i hi
theorem fw_front {x : Int32} (H0 : ¬ fw_pl x → post (-1)) (H1 : ∀ p, p < 7 → x = nI p → post (nI (fw_nf a10 p 16))) :
    wpX_front post (fl, ft, fg, a1, a2, a3, a4, a5, a6, a7, a8, a9, a10) x := by
  unfold wpX_front
  dsimp only
  refine fw_isPlace (fun z => br_t rfl (H0 z)) (fun ⟨p, hp, e⟩ => br_f (by decide) ?_)
  subst e
  refine pk_loop (σ := Unit) (fun n i _ => wX_front_17 post (nI p) fl ft fg a1 a2 a3 a4 a5 a6 a7 a8 a9 a10 n (nI (fw_nf a10 p i)) (nI (fw_bst a10 p i)) (nI i)) (fun _ _ => True) 16 0 () (by omega) trivial ?_ ?_
  · intro n _ _
    exact pk_le 16 16 (fun _ => H1 p hp rfl) (fun z => absurd z (by omega))
  · intro n i _ hi _ hw
    have hb := fw_bst_16 a10 p i
    have hs := fw_bst_s a10 p i
    have hw' := hw () trivial
    have e1 : fw_nf a10 p (i + 1) = fw_nf a10 p i + fw_dn a10 p i := rfl
    refine pk_le 16 i (fun z => absurd z (by omega)) (fun z => fw_first hp hi hb ?_)
    refine pk_le (fw_bst a10 p i) (fw_bst a10 p (i + 1)) (fun y => ?_) (fun y => ?_)
    · rw [e1, show fw_dn a10 p i = 0 from if_neg (by omega)] at hw'
      exact nm_r (nI_add _ 0) (nm_r (nI_1 i) hw')
    · rw [e1, show fw_dn a10 p i = 1 from if_pos (by omega)] at hw'
      exact nm_r (nI_1 _) (nm_r (nI_1 i) hw')
theorem fw_frontAt {x y : Int32} (H0 : ¬ fw_pl x → post (-1)) (H1 : ∀ p, p < 7 → x = nI p → ∃ k, k < 1000 ∧ y = nI k ∧ (fw_nf a10 p 16 ≤ k → post (-1)) ∧ ∀ a, a < 16 → fw_bst a10 p (a + 1) < fw_bst a10 p a → fw_nf a10 p a = k → post (nI (16 * a + fw_bst a10 p (a + 1)))) :
    wpX_frontAt post (fl, ft, fg, a1, a2, a3, a4, a5, a6, a7, a8, a9, a10) x y := by
  unfold wpX_frontAt
  dsimp only
  refine fw_isPlace (fun z => br_t rfl (H0 z)) (fun ⟨p, hp, e⟩ => br_f (by decide) ?_)
  subst e
  obtain ⟨k, hk, ek, g1, g2⟩ := H1 p hp rfl
  subst ek
  refine br_t (nI_pos' (by omega)) ?_
  refine pk_loop (σ := Unit) (fun n i _ => wX_frontAt_22 post (nI p) fl ft fg a1 a2 a3 a4 a5 a6 a7 a8 a9 a10 n (nI (k - fw_nf a10 p i)) (nI (fw_bst a10 p i)) (nI i)) (fun i _ => fw_nf a10 p i ≤ k) 16 0 () (by omega) (Nat.zero_le _) ?_ ?_
  · intro n _ h
    exact pk_le 16 16 (fun _ => g1 h) (fun z => absurd z (by omega))
  · intro n i _ hi h hw
    have hb := fw_bst_16 a10 p i
    have hs := fw_bst_s a10 p i
    have hw' := hw ()
    have e1 : fw_nf a10 p (i + 1) = fw_nf a10 p i + fw_dn a10 p i := rfl
    rw [e1] at hw'
    refine pk_le 16 i (fun z => absurd z (by omega)) (fun z => fw_first hp hi hb ?_)
    refine pk_le (fw_bst a10 p i) (fw_bst a10 p (i + 1)) (fun y => ?_) (fun y => ?_)
    · rw [show fw_dn a10 p i = 0 from if_neg (by omega)] at hw'
      exact nm_r (nI_1 i) (hw' h)
    · rw [show fw_dn a10 p i = 1 from if_pos (by omega)] at hw'
      refine pk_eq (k - fw_nf a10 p i) 0 (fun q => ?_) (fun q => ?_)
      · have := g2 i hi y (by omega)
        rw [← fw_ix2] at this
        exact this
      · refine nm_r ?_ (nm_r (nI_1 i) (hw' (by omega)))
        rw [show k - fw_nf a10 p i = k - (fw_nf a10 p i + 1) + 1 by omega]
        exact pk_m1 _
theorem fw_possible {x y z : Int32} (H0 : ¬ (fw_pl x ∧ fw_tm y ∧ fw_tm z) → post (-1))
    (H1 : ∀ p a b, p < 7 → a < 16 → b < 16 → x = nI p → y = nI a → z = nI b → (fw_ps a10 p a b → post 1) ∧ (¬ fw_ps a10 p a b → post 0)) :
    wpX_possible post (fl, ft, fg, a1, a2, a3, a4, a5, a6, a7, a8, a9, a10) x y z := by
  unfold wpX_possible
  dsimp only
  refine fw_isPlace (fun q => br_t rfl (H0 (fun w => q w.1))) (fun ⟨p, hp, ep⟩ => br_f (by decide) (fw_isTime (fun q => br_t rfl (H0 (fun w => q w.2))) (fun ⟨a, ha, ea⟩ ⟨b, hb, eb⟩ => br_f (by decide) ?_)))
  subst ep ea eb
  obtain ⟨g1, g0⟩ := H1 p a b hp ha hb rfl rfl rfl
  refine pk_loop (σ := Unit) (fun n i _ => wX_possible_20 post (nI p) (nI a) (nI b) fl ft fg a1 a2 a3 a4 a5 a6 a7 a8 a9 a10 n (nI i)) (fun i _ => ∀ x, x < i → ∀ y, y ≤ b → a10 (256 * p + 16 * x + y) ≤ 0) (a + 1) 0 () (by omega) (fun x hx => absurd hx (by omega)) ?_ ?_
  · intro n _ h
    refine pk_lt a (a + 1) (fun _ => g0 ?_) (fun q => absurd q (by omega))
    intro ⟨x, h1, y, h2, h3⟩
    exact h3 (h x (by omega) y h2)
  · intro n i _ hi h hw
    refine pk_lt a i (fun q => absurd q (by omega)) (fun _ => ?_)
    refine pk_loop (σ := Unit) (fun n' j _ => wX_possible_29 post (wX_possible_20 post (nI p) (nI a) (nI b) fl ft fg a1 a2 a3 a4 a5 a6 a7 a8 a9 a10 n) (nI p) (nI a) (nI b) (nI i) fl ft fg a1 a2 a3 a4 a5 a6 a7 a8 a9 a10 n' (nI j)) (fun j _ => ∀ y, y < j → a10 (256 * p + 16 * i + y) ≤ 0) (b + 1) 0 () (by omega) (fun x hx => absurd hx (by omega)) ?_ ?_
    · intro n' _ h'
      refine pk_lt b (b + 1) (fun _ => nm_r (nI_1 i) (hw () (fun x hx y hy => ?_))) (fun q => absurd q (by omega))
      by_cases c : x = i
      · rw [c]
        exact h' y (by omega)
      · exact h x (by omega) y hy
    · intro n' j _ hj h' hw'
      refine pk_lt b j (fun q => absurd q (by omega)) (fun _ => ⟨pk_in (256 * p + 16 * i + j) 1792 (by omega) (fw_ix3 _ _ _), ?_⟩)
      rw [fw_ix3, nI_clamp (show 256 * p + 16 * i + j < 2 ^ 31 by omega)]
      refine br_c (fun q => nm_r (nI_1 j) (hw' () (fun y hy => ?_))) (fun q => g1 ⟨i, by omega, j, by omega, q⟩)
      by_cases c : y = j
      · rw [c]
        exact q
      · exact h' y (by omega)
end
end
section
/-! reaches, ready, tokenAt, shortest -/
theorem fw_sublt {a t e : Nat} (ha : a < 1000) (ht : t < 1000) (he : e < 1000) : nI a - nI t < nI e ↔ a < t + e := by
  rw [Int32.lt_iff_toInt_lt, pk_sub_toInt (by omega) (by omega), nI_toInt (by omega)]
  omega
def fw_rch (R : Nat → List (Nat × Nat)) (p t m a b : Nat) : Prop := ∃ e, e ∈ R (7 * p + m) ∧ t / 16 + e.1 ≤ a ∧ t % 16 + e.2 ≤ b
section
variable {post : Int32 → Prop} {fl ft fg : Int32} {a1 a2 a3 a4 a5 a6 a7 a8 a9 a10 : Nat → Int32}
theorem fw_reaches {R : Nat → List (Nat × Nat)} {k p t m a b : Nat} (hR : fw_rw a7 a8 R) (hk : k < 20) (hp : p < 7) (ht : t < 256) (h5 : a5 k = nI p) (h6 : a6 k = nI t) (hm : m < 7) (ha : a < 16) (hb : b < 16)
    (H0 : ¬ fw_rch R p t m a b → post 0) (H1 : post 1) :
    wpX_reaches post (fl, ft, fg, a1, a2, a3, a4, a5, a6, a7, a8, a9, a10) (nI k) (nI m) (nI a) (nI b) := by
  have hr : 7 * p + m < 49 := by omega
  obtain ⟨hl, h7, h8⟩ := hR _ hr
  have hN := fw_len hl
  have hkc : (nI k).toNatClampNeg = k := nI_clamp (by omega)
  have hcl : (nI (7 * p + m)).toNatClampNeg = 7 * p + m := nI_clamp (by omega)
  have he : (19 * nI (7 * p + m)) + a7 (nI (7 * p + m)).toNatClampNeg = nI (19 * (7 * p + m) + (R (7 * p + m)).length) := by
    rw [hcl, h7, show (19 : Int32) = nI 19 from rfl, pk_mul, nI_add]
  unfold wpX_reaches
  dsimp only
  rw [hkc, h5, h6, fw_thi ht, fw_tlo ht]
  refine ⟨pk_in k 20 hk, nm_r (fw_ix7 p m) ⟨pk_in k 20 hk, nm_e ⟨pk_in k 20 hk, nm_e (nm_r (pk_mul 19 _) ?_)⟩⟩⟩
  refine pk_loop (σ := Unit) (fun n i _ => wX_reaches_46 post (nI (7 * p + m)) (nI a - nI (t / 16)) (nI b - nI (t % 16)) fl ft fg a1 a2 a3 a4 a5 a6 a7 a8 a9 a10 n (nI (19 * (7 * p + m) + i)))
    (fun i _ => ∀ (j : Nat) e, j < i → (R (7 * p + m))[j]? = some e → ¬ (t / 16 + e.1 ≤ a ∧ t % 16 + e.2 ≤ b)) (R (7 * p + m)).length 0 () (by omega) (fun j e hj => absurd hj (by omega)) ?_ ?_
  · intro n _ h
    refine ⟨pk_in _ 49 hr, pk_le (19 * (7 * p + m) + (R (7 * p + m)).length) (19 * (7 * p + m) + (R (7 * p + m)).length) (fun _ => H0 ?_) (fun z => absurd z (by omega)) he⟩
    intro ⟨e, g1, g2⟩
    obtain ⟨j, hj⟩ := List.mem_iff_getElem?.mp g1
    exact h j e (List.getElem?_eq_some_iff.mp hj).1 hj g2
  · intro n i _ hi h hw
    obtain ⟨e, hie⟩ := fw_ix hi
    obtain ⟨e1, e2⟩ := hl.2 e (List.mem_of_getElem? hie)
    have h8e := h8 i e hie
    have hq : 19 * (7 * p + m) + i < 931 := by omega
    have hqc : (nI (19 * (7 * p + m) + i)).toNatClampNeg = 19 * (7 * p + m) + i := nI_clamp (by omega)
    have go : ¬ (t / 16 + e.1 ≤ a ∧ t % 16 + e.2 ≤ b) → ∀ (j : Nat) e, j < i + 1 → (R (7 * p + m))[j]? = some e → ¬ (t / 16 + e.1 ≤ a ∧ t % 16 + e.2 ≤ b) := by
      intro g j f hj hf
      rcases fw_lt_s hj with z | z
      · exact h j f z hf
      · rw [z, hie] at hf
        rw [← Option.some.inj hf]
        exact g
    refine ⟨pk_in _ 49 hr, pk_le (19 * (7 * p + m) + (R (7 * p + m)).length) (19 * (7 * p + m) + i) (fun z => absurd z (by omega)) (fun _ => ⟨pk_in _ 931 hq, ?_⟩) he⟩
    rw [hqc, h8e, fw_hi (by omega) (by omega), fw_lo (by omega) (by omega)]
    refine ek_if (fw_sublt (by omega) (by omega) (by omega)) (fun z => nm_r (nI_1 _) (hw () (go (by omega)))) (fun z => ⟨pk_in _ 931 hq, ?_⟩)
    exact ek_if (fw_sublt (by omega) (by omega) (by omega)) (fun z => nm_r (nI_1 _) (hw () (go (by omega)))) (fun z => H1)
theorem fw_ready {R : Nat → List (Nat × Nat)} {nt : Nat} {x y z : Int32} (hR : fw_rw a7 a8 R) (ht : fw_tk nt a5 a6)
    (H0 : ¬ (fw_pl x ∧ fw_tm y ∧ fw_tm z) → post (-1))
    (H1 : ∀ m a b, m < 7 → a < 16 → b < 16 → x = nI m → y = nI a → z = nI b → post 0 ∧
      ((∃ k, k < nt ∧ a5 k = nI m ∧ a6 k = nI (16 * a + b)) → (∀ k p t, k < nt → p < 7 → t < 256 → a5 k = nI p → a6 k = nI t → ¬ (p = m ∧ t = 16 * a + b) → ¬ fw_rch R p t m a b) → post 1)) :
    wpX_ready post (fl, nI nt, fg, a1, a2, a3, a4, a5, a6, a7, a8, a9, a10) x y z := by
  have hnt := ht.1
  unfold wpX_ready
  dsimp only
  refine fw_isPlace (fun q => br_t rfl (H0 (fun w => q w.1))) (fun ⟨m, hm, em⟩ => br_f (by decide) (fw_isTime (fun q => br_t rfl (H0 (fun w => q w.2))) (fun ⟨a, ha, ea⟩ ⟨b, hb, eb⟩ => br_f (by decide) ?_)))
  subst em ea eb
  obtain ⟨g0, g1⟩ := H1 m a b hm ha hb rfl rfl rfl
  refine pk_loop (σ := Int32) (fun n i s => wX_ready_23 post (nI m) (nI a) (nI b) fl (nI nt) fg a1 a2 a3 a4 a5 a6 a7 a8 a9 a10 n s (nI i))
    (fun i s => ∃ c, c ≤ i ∧ s = nI c ∧ (0 < c → ∃ k, k < i ∧ a5 k = nI m ∧ a6 k = nI (16 * a + b)) ∧ ∀ k p t, k < i → p < 7 → t < 256 → a5 k = nI p → a6 k = nI t → ¬ (p = m ∧ t = 16 * a + b) → ¬ fw_rch R p t m a b) nt 0 0 (by omega)
    ⟨0, Nat.le_refl _, rfl, fun h => absurd h (by omega), fun k p t hk => absurd hk (by omega)⟩ ?_ ?_
  · intro n s ⟨c, c1, c2, c3, c4⟩
    subst c2
    exact pk_le nt nt (fun _ => pk_le c 0 (fun _ => g0) (fun q => g1 (c3 q) c4)) (fun q => absurd q (by omega))
  · intro n i s hi ⟨c, c1, c2, c3, c4⟩ hw
    subst c2
    obtain ⟨p, t, k1, k2, k3, k4⟩ := ht.2 i hi
    have hc : (nI i).toNatClampNeg = i := nI_clamp (by omega)
    have not_here : ¬ (p = m ∧ t = 16 * a + b) → wX_ready_64 post (wX_ready_23 post (nI m) (nI a) (nI b) fl (nI nt) fg a1 a2 a3 a4 a5 a6 a7 a8 a9 a10 n) (nI m) (nI a) (nI b) (nI c) (nI i) 0 fl (nI nt) fg a1 a2 a3 a4 a5 a6 a7 a8 a9 a10 := by
      intro hn
      refine br_t rfl (nm_r (nI_add c 0) (br_t rfl ?_))
      refine fw_reaches hR (by omega) k1 k2 k3 k4 hm ha hb (fun q => br_t rfl (nm_r (nI_1 i) (hw _ ⟨c, by omega, rfl, fun z => ?_, fun k p' t' q1 q2 q3 q4 q5 q6 => ?_⟩))) (br_f (by decide) g0)
      · obtain ⟨k, z1, z2⟩ := c3 z
        exact ⟨k, by omega, z2⟩
      · by_cases d : k = i
        · rw [d] at q4 q5
          have e1 := fw_nI_inj (k3.symm.trans q4) (by omega) (by omega)
          have e2 := fw_nI_inj (k4.symm.trans q5) (by omega) (by omega)
          rw [← e1, ← e2]
          exact q
        · exact c4 k p' t' (by omega) q2 q3 q4 q5 q6
    refine pk_le nt i (fun q => absurd q (by omega)) (fun _ => ⟨pk_in i 20 (by omega), ?_⟩)
    rw [hc, k3, k4, fw_ix2]
    refine pk_eq p m (fun q => ⟨pk_in i 20 (by omega), pk_eq t (16 * a + b) (fun q2 => ?_) (fun q2 => not_here (fun z => q2 z.2))⟩) (fun q => not_here (fun z => q z.1))
    refine br_f (by decide) (nm_r (nI_1 c) (br_f (by decide) (nm_r (nI_1 i) (hw _ ⟨c + 1, by omega, rfl, fun _ => ⟨i, by omega, by rw [k3, q], by rw [k4, q2]⟩, fun k p' t' r1 r2 r3 r4 r5 r6 => ?_⟩))))
    by_cases d : k = i
    · rw [d] at r4 r5
      have e1 := fw_nI_inj (k3.symm.trans r4) (by omega) (by omega)
      have e2 := fw_nI_inj (k4.symm.trans r5) (by omega) (by omega)
      exact absurd ⟨by omega, by omega⟩ r6
    · exact c4 k p' t' (by omega) r2 r3 r4 r5 r6
theorem fw_tokenAt {nt : Nat} {x y : Int32} (hnt : nt ≤ 20) (H0 : (∀ k, k < nt → ¬ (a5 k = x ∧ a6 k = y)) → post (-1)) (H1 : ∀ k, k < nt → a5 k = x → a6 k = y → post (nI k)) :
    wpX_tokenAt post (fl, nI nt, fg, a1, a2, a3, a4, a5, a6, a7, a8, a9, a10) x y := by
  unfold wpX_tokenAt
  dsimp only
  refine pk_loop (σ := Unit) (fun n i _ => wX_tokenAt_2 post x y fl (nI nt) fg a1 a2 a3 a4 a5 a6 a7 a8 a9 a10 n (nI i)) (fun i _ => ∀ k, k < i → ¬ (a5 k = x ∧ a6 k = y)) nt 0 () (by omega) (fun k hk => absurd hk (by omega)) ?_ ?_
  · intro n _ h
    exact pk_le nt nt (fun _ => H0 h) (fun q => absurd q (by omega))
  · intro n i _ hi h hw
    have hc : (nI i).toNatClampNeg = i := nI_clamp (by omega)
    have go : ¬ (a5 i = x ∧ a6 i = y) → ∀ k, k < i + 1 → ¬ (a5 k = x ∧ a6 k = y) := by
      intro g k hk
      by_cases d : k = i
      · rw [d]
        exact g
      · exact h k (by omega)
    refine pk_le nt i (fun q => absurd q (by omega)) (fun _ => ⟨pk_in i 20 (by omega), ?_⟩)
    rw [hc]
    exact br_c (fun q => ⟨pk_in i 20 (by omega), br_c (fun q2 => H1 i hi q q2) (fun q2 => nm_r (nI_1 i) (hw () (go (fun z => q2 z.2))))⟩) (fun q => nm_r (nI_1 i) (hw () (go (fun z => q z.1))))
theorem fw_shortest {R : Nat → List (Nat × Nat)} {x y : Int32} (hR : fw_rw a7 a8 R) (H0 : ¬ (fw_pl x ∧ fw_pl y) → post (-1)) (H1 : ∀ i j, i < 7 → j < 7 → x = nI i → y = nI j → post (nI (R (7 * i + j)).length)) :
    wpX_shortest post (fl, ft, fg, a1, a2, a3, a4, a5, a6, a7, a8, a9, a10) x y := by
  unfold wpX_shortest
  dsimp only
  refine fw_isPlace (fun q => br_t rfl (H0 (fun w => q w.1))) (fun ⟨i, hi, ei⟩ => br_f (by decide) (fw_isPlace (fun q => br_t rfl (H0 (fun w => q w.2))) (fun ⟨j, hj, ej⟩ => br_f (by decide) ?_)))
  subst ei ej
  rw [fw_ix7, nI_clamp (show 7 * i + j < 2 ^ 31 by omega), (hR (7 * i + j) (by omega)).2.1]
  exact ⟨pk_in (7 * i + j) 49 (by omega), H1 i j hi hj rfl rfl⟩
end
end
section
/-! fits -/
theorem fw_S_mono {f : Nat → Nat} {a b : Nat} (h : a ≤ b) : fw_S f a ≤ fw_S f b := by
  induction b with
  | zero => rw [show a = 0 by omega]; exact Nat.le_refl _
  | succ b ih =>
    by_cases e : a = b + 1
    · rw [e]
      exact Nat.le_refl _
    · exact Nat.le_trans (ih (by omega)) (Nat.le_add_right _ _)
theorem fw_nf_lt {c : Nat → Int32} {p a k : Nat} (h : fw_bst c p (a + 1) < fw_bst c p a) (hk : a < k) : fw_nf c p a < fw_nf c p k := by
  have h1 : fw_nf c p (a + 1) ≤ fw_nf c p k := fw_S_mono hk
  have h2 : fw_nf c p (a + 1) = fw_nf c p a + fw_dn c p a := rfl
  rw [show fw_dn c p a = 1 from if_pos h] at h2
  omega
theorem fw_nf_inj {c : Nat → Int32} {p a b : Nat} (ha : fw_bst c p (a + 1) < fw_bst c p a) (hb : fw_bst c p (b + 1) < fw_bst c p b) (h : fw_nf c p a = fw_nf c p b) : a = b := by
  rcases Nat.lt_trichotomy a b with z | z | z
  · have := fw_nf_lt ha z
    omega
  · exact z
  · have := fw_nf_lt hb z
    omega
theorem fw_nf_16 (c : Nat → Int32) (p : Nat) : fw_nf c p 16 ≤ 16 := by
  have h : fw_nf c p 16 ≤ 16 * 1 := fw_S_le (fun k _ => by unfold fw_dn; split <;> omega)
  omega
theorem fw_nf_0 (c : Nat → Int32) (p k : Nat) : fw_nf c p k = 0 ↔ fw_bst c p k = 16 := by
  induction k with
  | zero => exact ⟨fun _ => rfl, fun _ => rfl⟩
  | succ k ih =>
    have h1 : fw_nf c p (k + 1) = fw_nf c p k + fw_dn c p k := rfl
    have h2 := fw_bst_s c p k
    have h3 := fw_bst_16 c p k
    by_cases g : fw_bst c p (k + 1) < fw_bst c p k
    · rw [show fw_dn c p k = 1 from if_pos g] at h1
      omega
    · rw [show fw_dn c p k = 0 from if_neg g] at h1
      omega
theorem fw_ps_m {c : Nat → Int32} {p a b a' b' : Nat} (h : fw_ps c p a b) (ha : a ≤ a') (hb : b ≤ b') : fw_ps c p a' b' := by
  obtain ⟨x, h1, y, h2, h3⟩ := h
  exact ⟨x, by omega, y, by omega, h3⟩
/-- (a, b) stands in the front of p -/
def fw_L (c : Nat → Int32) (p a b : Nat) : Prop := fw_bst c p (a + 1) = b ∧ b < fw_bst c p a
theorem fw_L_iff (c : Nat → Int32) {p a b : Nat} (hb : b < 16) : fw_L c p a b ↔ fw_ps c p a b ∧ (a = 0 ∨ ¬ fw_ps c p (a - 1) b) ∧ (b = 0 ∨ ¬ fw_ps c p a (b - 1)) := by
  rw [fw_ps_iff c p a b hb, fw_ps_iff c p (a - 1) b hb, fw_ps_iff c p a (b - 1) (by omega)]
  unfold fw_L
  by_cases e : a = 0
  · subst e
    have : fw_bst c p 0 = 16 := rfl
    omega
  · rw [show a - 1 + 1 = a by omega]
    omega
section
variable {post : Int32 → Prop} {fl ft fg : Int32} {a1 a2 a3 a4 a5 a6 a7 a8 a9 a10 : Nat → Int32}
theorem fw_poss {p a b : Nat} (hp : p < 7) (ha : a < 16) (hb : b < 16) (H1 : fw_ps a10 p a b → post 1) (H0 : ¬ fw_ps a10 p a b → post 0) :
    wpX_possible post (fl, ft, fg, a1, a2, a3, a4, a5, a6, a7, a8, a9, a10) (nI p) (nI a) (nI b) := by
  refine fw_possible (fun q => absurd ⟨⟨p, hp, rfl⟩, ⟨a, ha, rfl⟩, ⟨b, hb, rfl⟩⟩ q) (fun p' a' b' h1 h2 h3 e1 e2 e3 => ?_)
  have e1 := fw_nI_inj e1 (by omega) (by omega)
  have e2 := fw_nI_inj e2 (by omega) (by omega)
  have e3 := fw_nI_inj e3 (by omega) (by omega)
  subst e1 e2 e3
  exact ⟨H1, H0⟩
theorem fw_fr {p : Nat} (hp : p < 7) (H : post (nI (fw_nf a10 p 16))) : wpX_front post (fl, ft, fg, a1, a2, a3, a4, a5, a6, a7, a8, a9, a10) (nI p) := by
  refine fw_front (fun q => absurd ⟨p, hp, rfl⟩ q) (fun p' h1 e1 => ?_)
  have e1 := fw_nI_inj e1 (by omega) (by omega)
  subst e1
  exact H
theorem fw_frAt {p k : Nat} (hp : p < 7) (hk : k < 1000) (H0 : fw_nf a10 p 16 ≤ k → post (-1)) (H1 : ∀ a, a < 16 → fw_bst a10 p (a + 1) < fw_bst a10 p a → fw_nf a10 p a = k → post (nI (16 * a + fw_bst a10 p (a + 1)))) :
    wpX_frontAt post (fl, ft, fg, a1, a2, a3, a4, a5, a6, a7, a8, a9, a10) (nI p) (nI k) := by
  refine fw_frontAt (fun q => absurd ⟨p, hp, rfl⟩ q) (fun p' h1 e1 => ?_)
  have e1 := fw_nI_inj e1 (by omega) (by omega)
  subst e1
  exact ⟨k, hk, rfl, H0, H1⟩
theorem fw_309 {p : Nat} (hp : p < 7) (H : post 1) : wL_fits_309 post (nI p) (nI (fw_nf a10 p 16)) fl ft fg a1 a2 a3 a4 a5 a6 a7 a8 a9 a10 := by
  have h16 := fw_nf_16 a10 p
  have h0 := fw_nf_0 a10 p 16
  have hb := fw_bst_16 a10 p 16
  have hps := fw_ps_iff a10 p 15 15 (by omega)
  refine pk_le (fw_nf a10 p 16) 0 (fun z => ?_) (fun z => ?_)
  · refine fw_poss (a := 15) (b := 15) hp (by omega) (by omega) (fun q => ?_) (fun q => br_f (by decide) (br_t rfl H))
    have : fw_bst a10 p 16 ≤ 15 := hps.mp q
    omega
  · refine fw_poss (a := 15) (b := 15) hp (by omega) (by omega) (fun q => br_t rfl (br_t rfl H)) (fun q => ?_)
    have : ¬ fw_bst a10 p 16 ≤ 15 := fun y => q (hps.mpr y)
    omega
theorem fw_215f {p a b : Nat} {x6 z0 : Int32} (hp : p < 7) (ha : a < 16) (hb : b < 16) (h6 : x6 = 1 → fw_L a10 p a b) (hz : (z0 = 1 ∧ fw_L a10 p a b) ∨ (z0 = 0 ∧ ¬ fw_L a10 p a b)) (H : post 1) :
    wL_fits_215 post (nI p) (nI a) (nI b) x6 z0 fl ft fg a1 a2 a3 a4 a5 a6 a7 a8 a9 a10 := by
  have h16 := fw_nf_16 a10 p
  refine fw_fr hp ?_
  refine pk_loop (σ := Int32) (fun n i s => wL_fits_230 post (nI p) (nI a) (nI b) x6 z0 (nI (fw_nf a10 p 16)) fl ft fg a1 a2 a3 a4 a5 a6 a7 a8 a9 a10 n s (nI i))
    (fun i s => (s = 1 ∧ fw_L a10 p a b ∧ fw_nf a10 p a < i) ∨ (s = 0 ∧ ¬ (fw_L a10 p a b ∧ fw_nf a10 p a < i))) (fw_nf a10 p 16) 0 0 (by omega) (Or.inr ⟨rfl, fun z => absurd z.2 (by omega)⟩) ?_ ?_
  · intro n s h
    have es : s = z0 := by
      rcases h with ⟨h1, h2, h3⟩ | ⟨h1, h2⟩
      · rcases hz with ⟨z1, z2⟩ | ⟨z1, z2⟩
        · rw [h1, z1]
        · exact absurd h2 z2
      · rcases hz with ⟨z1, z2⟩ | ⟨z1, z2⟩
        · exact absurd ⟨z2, fw_nf_lt (by rw [z2.1]; exact z2.2) ha⟩ h2
        · rw [h1, z1]
    refine pk_le (fw_nf a10 p 16) (fw_nf a10 p 16) (fun _ => br_t es ?_) (fun z => absurd z (by omega))
    refine pk_lt 16 (fw_nf a10 p 16) (fun z => absurd z (by omega)) (fun _ => fw_frAt hp (by omega) (fun _ => br_t rfl ?_) (fun a' q1 q2 q3 => ?_))
    · refine br_c (fun y => br_f ?_ (fw_309 hp H)) (fun _ => fw_309 hp H)
      rcases hz with ⟨z1, z2⟩ | ⟨z1, z2⟩
      · rw [z1]
        decide
      · exact absurd (h6 y) z2
    · have := fw_nf_lt q2 q1
      omega
  · intro n i s hi h hw
    refine pk_le (fw_nf a10 p 16) i (fun z => absurd z (by omega)) (fun _ => ?_)
    rcases h with ⟨h1, h2, h3⟩ | ⟨h1, h2⟩
    · rw [h1]
      exact br_f (by decide) (nm_r (nI_1 i) (hw 1 (Or.inl ⟨rfl, h2, by omega⟩)))
    · rw [h1]
      refine br_t rfl (fw_frAt hp (by omega) (fun q => absurd q (by omega)) (fun a' q1 q2 q3 => ?_))
      have hb' := fw_bst_16 a10 p a'
      refine pk_eq (16 * a' + fw_bst a10 p (a' + 1)) (16 * a + b) (fun y => nm_r (nI_1 i) (hw 1 (Or.inl ⟨rfl, ?_⟩))) (fun y => nm_r (nI_1 i) (hw 0 (Or.inr ⟨rfl, ?_⟩))) rfl (fw_ix2 a b)
      · have e : a' = a := by omega
        subst e
        have e2 : fw_bst a10 p (a' + 1) = b := by omega
        exact ⟨⟨e2, by omega⟩, by omega⟩
      · intro ⟨y1, y2⟩
        have y3 : ¬ fw_nf a10 p a < i := fun w => h2 ⟨y1, w⟩
        have e : a = a' := fw_nf_inj (by rw [y1.1]; exact y1.2) q2 (by omega)
        subst e
        rw [y1.1] at y
        exact y rfl
theorem fw_172 {p a b : Nat} {x5 x6 : Int32} (hp : p < 7) (ha : a < 16) (hb : b < 16) (h6 : x6 = 1 → fw_L a10 p a b) (h5 : (x5 = 1 ∧ fw_ps a10 p a b) ∨ (x5 = 0 ∧ ¬ fw_ps a10 p a b)) (H : post 1) :
    wL_fits_172 post (nI p) (nI a) (nI b) x5 x6 fl ft fg a1 a2 a3 a4 a5 a6 a7 a8 a9 a10 := by
  have hL := fw_L_iff a10 (p := p) (a := a) hb
  have no : ¬ fw_L a10 p a b → wL_fits_214 post (nI p) (nI a) (nI b) x6 fl ft fg a1 a2 a3 a4 a5 a6 a7 a8 a9 a10 := fun h => fw_215f hp ha hb h6 (Or.inr ⟨rfl, h⟩) H
  have yes : fw_L a10 p a b → wL_fits_210 post (nI p) (nI a) (nI b) x6 fl ft fg a1 a2 a3 a4 a5 a6 a7 a8 a9 a10 := fun h => fw_215f hp ha hb h6 (Or.inl ⟨rfl, h⟩) H
  rcases h5 with ⟨e, hps⟩ | ⟨e, hps⟩
  · rw [e]
    have k194 : (a = 0 ∨ ¬ fw_ps a10 p (a - 1) b) → wL_fits_194 post (nI p) (nI a) (nI b) x6 fl ft fg a1 a2 a3 a4 a5 a6 a7 a8 a9 a10 := by
      intro h
      refine pk_eq b 0 (fun z => yes (hL.mpr ⟨hps, h, Or.inl z⟩)) (fun z => ?_)
      have e1 : nI b - 1 = nI (b - 1) := pk_sub (b := 1) (by omega)
      rw [e1]
      exact fw_poss hp ha (by omega) (fun q => br_f (by decide) (no (fun w => by
        rcases (hL.mp w).2.2 with y | y
        · exact z y
        · exact y q))) (fun q => br_t rfl (yes (hL.mpr ⟨hps, h, Or.inr q⟩)))
    refine br_t rfl (pk_eq a 0 (fun z => k194 (Or.inl z)) (fun z => ?_))
    have e1 : nI a - 1 = nI (a - 1) := pk_sub (b := 1) (by omega)
    rw [e1]
    exact fw_poss hp (by omega) hb (fun q => br_f (by decide) (no (fun w => by
      rcases (hL.mp w).2.1 with y | y
      · exact z y
      · exact y q))) (fun q => br_t rfl (k194 (Or.inr q)))
  · rw [e]
    exact br_f (by decide) (no (fun w => hps (hL.mp w).1))
theorem fw_120 {p a b : Nat} {x5 x6 : Int32} (hp : p < 7) (ha : a < 16) (hb : b < 16) (h6 : x6 = 1 → fw_L a10 p a b) (h5 : (x5 = 1 ∧ fw_ps a10 p a b) ∨ (x5 = 0 ∧ ¬ fw_ps a10 p a b)) (H : post 1) :
    wL_fits_120 post (nI p) (nI a) (nI b) x5 x6 fl ft fg a1 a2 a3 a4 a5 a6 a7 a8 a9 a10 := by
  have k172 : wL_fits_172 post (nI p) (nI a) (nI b) x5 x6 fl ft fg a1 a2 a3 a4 a5 a6 a7 a8 a9 a10 := fw_172 hp ha hb h6 h5 H
  rcases h5 with ⟨e, hps⟩ | ⟨e, hps⟩
  · rw [e] at k172 ⊢
    have k145 : wL_fits_145 post (nI p) (nI a) (nI b) 1 x6 fl ft fg a1 a2 a3 a4 a5 a6 a7 a8 a9 a10 := by
      refine br_t rfl (pk_le 15 b (fun _ => k172) (fun z => ?_))
      rw [nI_1]
      exact fw_poss hp ha (by omega) (fun q => br_t rfl k172) (fun q => absurd (fw_ps_m hps (Nat.le_refl _) (by omega)) q)
    refine br_t rfl (pk_le 15 a (fun _ => k145) (fun z => ?_))
    rw [nI_1]
    exact fw_poss hp (by omega) hb (fun q => br_t rfl k145) (fun q => absurd (fw_ps_m hps (by omega) (Nat.le_refl _)) q)
  · rw [e] at k172 ⊢
    exact br_f (by decide) (br_f (by decide) k172)
/-- an own token, and no other that reaches it: the time is least -/
theorem fw_own {R : Nat → List (Nat × Nat)} {nt m a b : Nat} (hR : ∀ r, r < 49 → fw_okl (R r)) (hd : fw_dg R) (ht : fw_tk nt a5 a6) (hk : fw_mk R nt a5 a6 a10) (hm : m < 7) (ha : a < 16) (hb : b < 16)
    (h : ∃ k, k < nt ∧ a5 k = nI m ∧ a6 k = nI (16 * a + b)) : fw_ps a10 m a b := by
  obtain ⟨k, h1, h2, h3⟩ := h
  refine ⟨a, Nat.le_refl _, b, Nat.le_refl _, (fw_mk_iff hR ht hk hm ha hb).mpr ⟨k, h1, m, 16 * a + b, (0, 0), hm, by omega, h2, h3, ?_, ?_, ?_⟩⟩
  · rw [hd (7 * m + m) (by omega) (by omega)]
    exact List.mem_singleton.mpr rfl
  · dsimp only
    omega
  · dsimp only
    omega
theorem fw_ownL {R : Nat → List (Nat × Nat)} {nt m a b : Nat} (hR : ∀ r, r < 49 → fw_okl (R r)) (hd : fw_dg R) (ht : fw_tk nt a5 a6) (hk : fw_mk R nt a5 a6 a10) (hm : m < 7) (ha : a < 16) (hb : b < 16)
    (h : ∃ k, k < nt ∧ a5 k = nI m ∧ a6 k = nI (16 * a + b))
    (hn : ∀ k p t, k < nt → p < 7 → t < 256 → a5 k = nI p → a6 k = nI t → ¬ (p = m ∧ t = 16 * a + b) → ¬ fw_rch R p t m a b) : fw_L a10 m a b := by
  have key : ∀ x y, x ≤ a → y ≤ b → ¬ a10 (256 * m + 16 * x + y) ≤ 0 → x = a ∧ y = b := by
    intro x y hx hy hc
    obtain ⟨k, k1, p, t, e, k2, k3, k4, k5, k6, k7, k8⟩ := (fw_mk_iff hR ht hk hm (by omega) (by omega)).mp hc
    by_cases c : p = m ∧ t = 16 * a + b
    · omega
    · exact absurd ⟨e, k6, by omega, by omega⟩ (hn k p t k1 k2 k3 k4 k5 c)
  refine (fw_L_iff a10 hb).mpr ⟨fw_own hR hd ht hk hm ha hb h, ?_, ?_⟩
  · by_cases e : a = 0
    · exact Or.inl e
    · right
      intro ⟨x, h1, y, h2, h3⟩
      have := key x y (by omega) h2 h3
      omega
  · by_cases e : b = 0
    · exact Or.inl e
    · right
      intro ⟨x, h1, y, h2, h3⟩
      have := key x y h1 (by omega) h3
      omega
theorem fw_fits {R : Nat → List (Nat × Nat)} {nt : Nat} {x y z : Int32} (hR : fw_rw a7 a8 R) (hd : fw_dg R) (ht : fw_tk nt a5 a6) (hk : fw_mk R nt a5 a6 a10) (H : post 1) :
    wpL_fits post (fl, nI nt, fg, a1, a2, a3, a4, a5, a6, a7, a8, a9, a10) x y z := by
  have hO : ∀ r, r < 49 → fw_okl (R r) := fun r hr => (hR r hr).1
  have out : ¬ (fw_pl x ∧ fw_tm y ∧ fw_tm z) → wL_fits_34 post x y z fl (nI nt) fg a1 a2 a3 a4 a5 a6 a7 a8 a9 a10 := by
    intro h
    unfold wL_fits_34 wL_fits_35
    refine fw_possible (fun _ => fw_ready hR ht (fun _ => br_t rfl (br_t rfl (br_t rfl H))) ?_) ?_
    · intro m a b h1 h2 h3 e1 e2 e3
      exact absurd ⟨⟨m, h1, e1⟩, ⟨a, h2, e2⟩, ⟨b, h3, e3⟩⟩ h
    · intro m a b h1 h2 h3 e1 e2 e3
      exact absurd ⟨⟨m, h1, e1⟩, ⟨a, h2, e2⟩, ⟨b, h3, e3⟩⟩ h
  have inn : fw_pl x → fw_tm y → fw_tm z → wL_fits_35 post x y z 1 fl (nI nt) fg a1 a2 a3 a4 a5 a6 a7 a8 a9 a10 := by
    intro ⟨m, hm, em⟩ ⟨a, ha, ea⟩ ⟨b, hb, eb⟩
    subst em ea eb
    have rd : ∀ Q : Int32 → Prop, Q 0 → ((∃ k, k < nt ∧ a5 k = nI m ∧ a6 k = nI (16 * a + b)) → fw_L a10 m a b → Q 1) → wpX_ready Q (fl, nI nt, fg, a1, a2, a3, a4, a5, a6, a7, a8, a9, a10) (nI m) (nI a) (nI b) := by
      intro Q q0 q1
      refine fw_ready hR ht (fun q => absurd ⟨⟨m, hm, rfl⟩, ⟨a, ha, rfl⟩, ⟨b, hb, rfl⟩⟩ q) (fun m' a' b' h1 h2 h3 e1 e2 e3 => ?_)
      have e1 := fw_nI_inj e1 (by omega) (by omega)
      have e2 := fw_nI_inj e2 (by omega) (by omega)
      have e3 := fw_nI_inj e3 (by omega) (by omega)
      subst e1 e2 e3
      exact ⟨q0, fun w1 w2 => q1 w1 (fw_ownL hO hd ht hk hm ha hb w1 w2)⟩
    refine fw_poss hm ha hb (fun hp => rd _ ?_ (fun w1 w2 => ?_)) (fun hp => rd _ ?_ (fun w1 w2 => ?_))
    · refine br_f (by decide) (br_f (by decide) (br_f (by decide) (br_f (by decide) (br_f (by decide) (br_t rfl ?_)))))
      exact fw_poss (a := 15) (b := 15) hm (by omega) (by omega) (fun _ => br_t rfl (fw_120 hm ha hb (fun q => absurd q (by decide)) (Or.inl ⟨rfl, hp⟩) H)) (fun q => absurd (fw_ps_m hp (by omega) (by omega)) q)
    · refine br_f (by decide) (br_f (by decide) (br_f (by decide) (br_f (by decide) (br_f (by decide) (br_t rfl ?_)))))
      exact fw_poss (a := 15) (b := 15) hm (by omega) (by omega) (fun _ => br_t rfl (fw_120 hm ha hb (fun _ => w2) (Or.inl ⟨rfl, hp⟩) H)) (fun q => absurd (fw_ps_m hp (by omega) (by omega)) q)
    · exact br_f (by decide) (br_f (by decide) (br_f (by decide) (br_f (by decide) (br_f (by decide) (br_f (by decide) (fw_120 hm ha hb (fun q => absurd q (by decide)) (Or.inr ⟨rfl, hp⟩) H))))))
    · exact absurd (fw_own hO hd ht hk hm ha hb w1) hp
  exact br_c (fun q => out (fun w => fw_rg0 q (by omega) w.1)) (fun q1 => br_c (fun q => out (fun w => fw_rg1 (N := 6) rfl q (by omega) w.1)) (fun q2 =>
    br_c (fun q => out (fun w => fw_rg0 q (by omega) w.2.1)) (fun q3 => br_c (fun q => out (fun w => fw_rg1 (N := 15) rfl q (by omega) w.2.1)) (fun q4 =>
    br_c (fun q => out (fun w => fw_rg0 q (by omega) w.2.2)) (fun q5 => br_c (fun q => out (fun w => fw_rg1 (N := 15) rfl q (by omega) w.2.2)) (fun q6 =>
    inn (fw_rg2 (N := 6) rfl q1 q2 (by omega)) (fw_rg2 (N := 15) rfl q3 q4 (by omega)) (fw_rg2 (N := 15) rfl q5 q6 (by omega))))))))
end
end
section
/-! link, unlink, put, take, pass, the constructor -/
def fw_KR (nl nt : Nat) (R : Nat → List (Nat × Nat)) (a1 a2 a3 a4 a5 a6 a7 a8 a10 : Nat → Int32) : Prop := fw_ln nl a1 a2 a3 a4 ∧ fw_tk nt a5 a6 ∧ fw_rw a7 a8 R ∧ fw_dg R ∧ fw_mk R nt a5 a6 a10
theorem fw_neg (a b : Int32) : a + b + (-1) * b = a := by grind
theorem fw_neg2 {s' f s f' : Int32} (h : s' + f = s + f') : s + (-1) * f + 1 * f' = s' := by grind
theorem fw_tk_up {nt k m t : Nat} {a5 a6 : Nat → Int32} (h : fw_tk nt a5 a6) (hm : m < 7) (ht : t < 256) : fw_tk nt (upd a5 k (nI m)) (upd a6 k (nI t)) := by
  refine ⟨h.1, fun j hj => ?_⟩
  by_cases e : j = k
  · rw [e, pk_us, pk_us]
    exact ⟨m, t, hm, ht, rfl, rfl⟩
  · rw [pk_un e, pk_un e]
    exact h.2 j hj
theorem fw_tk_s {nt m t : Nat} {a5 a6 : Nat → Int32} (h : fw_tk nt a5 a6) (hn : nt < 20) (hm : m < 7) (ht : t < 256) : fw_tk (nt + 1) (upd a5 nt (nI m)) (upd a6 nt (nI t)) := by
  refine ⟨by omega, fun j hj => ?_⟩
  by_cases e : j = nt
  · rw [e, pk_us, pk_us]
    exact ⟨m, t, hm, ht, rfl, rfl⟩
  · rw [pk_un e, pk_un e]
    exact h.2 j (by omega)
theorem fw_mk_put {R : Nat → List (Nat × Nat)} {nt m t : Nat} {a5 a6 a10 b : Nat → Int32} (h : fw_mk R nt a5 a6 a10) (hm : m < 7) (ht : t < 256) (hb : ∀ x, b x = a10 x + 1 * nI (fw_c7 R m t x 7)) : fw_mk R (nt + 1) (upd a5 nt (nI m)) (upd a6 nt (nI t)) b := by
  intro x hx
  have e : fw_tot R (upd a5 nt (nI m)) (upd a6 nt (nI t)) x (nt + 1) = fw_tot R a5 a6 x nt + fw_c7 R m t x 7 := by
    show fw_S _ nt + fw_c7 R (upd a5 nt (nI m) nt).toNatClampNeg (upd a6 nt (nI t) nt).toNatClampNeg x 7 = _
    rw [pk_us, pk_us, nI_clamp (show m < 2 ^ 31 by omega), nI_clamp (show t < 2 ^ 31 by omega)]
    refine congrArg (· + fw_c7 R m t x 7) (fw_S_cg (fun k hk => ?_))
    rw [pk_un (by omega), pk_un (by omega)]
  rw [hb x, h x hx, e, Int32.one_mul, nI_add]
theorem fw_mk_take {R : Nat → List (Nat × Nat)} {n k m t : Nat} {a5 a6 a10 b : Nat → Int32} (h : fw_mk R (n + 1) a5 a6 a10) (hk : k < n + 1) (hm : m < 7) (ht : t < 256) (h5 : a5 k = nI m) (h6 : a6 k = nI t) (hb : ∀ x, b x = a10 x + (-1) * nI (fw_c7 R m t x 7)) : fw_mk R n (upd a5 k (a5 n)) (upd a6 k (a6 n)) b := by
  intro x hx
  have hf : fw_c7 R (a5 k).toNatClampNeg (a6 k).toNatClampNeg x 7 = fw_c7 R m t x 7 := by
    rw [h5, h6, nI_clamp (show m < 2 ^ 31 by omega), nI_clamp (show t < 2 ^ 31 by omega)]
  have e : fw_tot R a5 a6 x (n + 1) = fw_tot R (upd a5 k (a5 n)) (upd a6 k (a6 n)) x n + fw_c7 R m t x 7 := by
    have e0 : fw_tot R a5 a6 x (n + 1) = fw_tot R a5 a6 x n + fw_c7 R (a5 n).toNatClampNeg (a6 n).toNatClampNeg x 7 := rfl
    rw [e0]
    by_cases c : k = n
    · rw [c] at hf
      rw [hf]
      refine congrArg (· + fw_c7 R m t x 7) (fw_S_cg (fun j hj => ?_))
      rw [pk_un (by omega), pk_un (by omega)]
    · have q := fw_S_up (f := fun j => fw_c7 R (a5 j).toNatClampNeg (a6 j).toNatClampNeg x 7) (g := fun j => fw_c7 R (upd a5 k (a5 n) j).toNatClampNeg (upd a6 k (a6 n) j).toNatClampNeg x 7) (n := n) (k := k) (by omega) (fun j _ hj => by
        show fw_c7 R (upd a5 k (a5 n) j).toNatClampNeg (upd a6 k (a6 n) j).toNatClampNeg x 7 = _
        rw [pk_un hj, pk_un hj])
      rw [pk_us, pk_us, hf] at q
      exact q.symm
  rw [hb x, h x hx, e, ← nI_add, fw_neg]
theorem fw_mk_pass {R : Nat → List (Nat × Nat)} {nt k m t m' t' : Nat} {a5 a6 a10 b b' : Nat → Int32} (h : fw_mk R nt a5 a6 a10) (hk : k < nt) (hm : m < 7) (ht : t < 256) (hm' : m' < 7) (ht' : t' < 256) (h5 : a5 k = nI m) (h6 : a6 k = nI t)
    (hb : ∀ x, b x = a10 x + (-1) * nI (fw_c7 R m t x 7)) (hb' : ∀ x, b' x = b x + 1 * nI (fw_c7 R m' t' x 7)) : fw_mk R nt (upd a5 k (nI m')) (upd a6 k (nI t')) b' := by
  intro x hx
  have hf : fw_c7 R (a5 k).toNatClampNeg (a6 k).toNatClampNeg x 7 = fw_c7 R m t x 7 := by
    rw [h5, h6, nI_clamp (show m < 2 ^ 31 by omega), nI_clamp (show t < 2 ^ 31 by omega)]
  have q := fw_S_up (f := fun j => fw_c7 R (a5 j).toNatClampNeg (a6 j).toNatClampNeg x 7) (g := fun j => fw_c7 R (upd a5 k (nI m') j).toNatClampNeg (upd a6 k (nI t') j).toNatClampNeg x 7) (n := nt) (k := k) hk (fun j _ hj => by
    show fw_c7 R (upd a5 k (nI m') j).toNatClampNeg (upd a6 k (nI t') j).toNatClampNeg x 7 = _
    rw [pk_un hj, pk_un hj])
  rw [pk_us, pk_us, hf, nI_clamp (show m' < 2 ^ 31 by omega), nI_clamp (show t' < 2 ^ 31 by omega)] at q
  have q' : nI (fw_tot R (upd a5 k (nI m')) (upd a6 k (nI t')) x nt) + nI (fw_c7 R m t x 7) = nI (fw_tot R a5 a6 x nt) + nI (fw_c7 R m' t' x 7) := by
    rw [nI_add, nI_add]
    exact congrArg nI q
  rw [hb' x, hb x, h x hx]
  exact fw_neg2 q'
def fw_q3 (x : Int32) : Prop := ∃ n, n < 4 ∧ x = nI n
section
variable {post : Int32 → St1 → Prop} {fg : Int32} {a1 a2 a3 a4 a5 a6 a7 a8 a9 a10 : Nat → Int32} {nl nt : Nat} {R : Nat → List (Nat × Nat)}
theorem fw_link {x y p q : Int32} (hK : fw_KR nl nt R a1 a2 a3 a4 a5 a6 a7 a8 a10)
    (H0 : ¬ (fw_pl x ∧ fw_pl y ∧ fw_q3 p ∧ fw_q3 q ∧ nl < 12) → post (-1) (nI nl, nI nt, fg, a1, a2, a3, a4, a5, a6, a7, a8, a9, a10))
    (H1 : fw_pl x → fw_pl y → fw_q3 p → fw_q3 q → nl < 12 → ∀ e b1 b2 b3 b4 b7 b8 b9 b10 R', fw_KR (nl + 1) nt R' b1 b2 b3 b4 a5 a6 b7 b8 b10 → (∀ i j, i < 7 → j < 7 → x = nI i → y = nI j → 0 < (R' (7 * i + j)).length) →
      post (nI (nl + 1)) (nI (nl + 1), nI nt, e, b1, b2, b3, b4, a5, a6, b7, b8, b9, b10)) :
    wpX_link post (nI nl, nI nt, fg, a1, a2, a3, a4, a5, a6, a7, a8, a9, a10) x y p q := by
  obtain ⟨k1, k2, k3, k4, k5⟩ := hK
  have hnl := k1.1
  unfold wpX_link
  dsimp only
  refine fw_isPlace (fun z => br_t rfl (H0 (fun w => z w.1))) (fun hx => br_f (by decide) (fw_isPlace (fun z => br_t rfl (H0 (fun w => z w.2.1))) (fun hy => br_f (by decide) ?_)))
  refine br_c (fun z => H0 (fun w => fw_rg0 z (by omega) w.2.2.1)) (fun z1 => br_c (fun z => H0 (fun w => fw_rg1 (N := 3) rfl z (by omega) w.2.2.1)) (fun z2 => ?_))
  refine br_c (fun z => H0 (fun w => fw_rg0 z (by omega) w.2.2.2.1)) (fun z3 => br_c (fun z => H0 (fun w => fw_rg1 (N := 3) rfl z (by omega) w.2.2.2.1)) (fun z4 => ?_))
  refine pk_lt nl 12 (fun z5 => ?_) (fun z5 => H0 (fun w => absurd w.2.2.2.2 (by omega)))
  have hp : fw_q3 p := fw_rg2 (N := 3) rfl z1 z2 (by omega)
  have hq : fw_q3 q := fw_rg2 (N := 3) rfl z3 z4 (by omega)
  rw [nI_clamp (show nl < 2 ^ 31 by omega)]
  refine ⟨pk_in nl 12 z5, nm_e ⟨pk_in nl 12 z5, nm_e ⟨pk_in nl 12 z5, nm_e ⟨pk_in nl 12 z5, nm_e (nm_r (nI_1 nl) ?_)⟩⟩⟩⟩
  obtain ⟨i, hi, ei⟩ := hx
  obtain ⟨j, hj, ej⟩ := hy
  obtain ⟨p', hp', ep⟩ := hp
  obtain ⟨q', hq', eq⟩ := hq
  have hln : fw_ln (nl + 1) (upd a1 nl x) (upd a2 nl y) (upd a3 nl p) (upd a4 nl q) := by
    refine ⟨by omega, fun k hk => ?_⟩
    by_cases c : k = nl
    · rw [c, pk_us, pk_us, pk_us, pk_us]
      exact ⟨i, j, p', q', hi, hj, by omega, by omega, ei, ej, ep, eq⟩
    · rw [pk_un c, pk_un c, pk_un c, pk_un c]
      exact k1.2 k (by omega)
  refine fw_rebuild hln k2 (fun e b7 b8 b9 b10 R' g1 g2 g3 g4 => H1 ⟨i, hi, ei⟩ ⟨j, hj, ej⟩ ⟨p', hp', ep⟩ ⟨q', hq', eq⟩ z5 e _ _ _ _ b7 b8 b9 b10 R' ⟨hln, k2, g1, g2, g4⟩ (fun i' j' r1 r2 r3 r4 => ?_))
  by_cases c : i' = j'
  · rw [c, g2 (7 * j' + j') (by omega) (by omega)]
    exact Nat.zero_lt_one
  · refine g3 i' j' (p', q') r1 r2 c ⟨nl, by omega, ?_⟩
    rw [pk_us, pk_us, pk_us, pk_us]
    exact ⟨r3, r4, ep, eq, by dsimp only; omega, by dsimp only; omega⟩
theorem fw_unlink {x : Int32} (hK : fw_KR nl nt R a1 a2 a3 a4 a5 a6 a7 a8 a10)
    (H0 : ¬ (∃ n, n < nl ∧ x = nI n) → post (-1) (nI nl, nI nt, fg, a1, a2, a3, a4, a5, a6, a7, a8, a9, a10))
    (H1 : ∀ n l, n < nl → x = nI n → nl = l + 1 → ∀ e b1 b2 b3 b4 b7 b8 b9 b10 R', fw_KR l nt R' b1 b2 b3 b4 a5 a6 b7 b8 b10 → post (nI l) (nI l, nI nt, e, b1, b2, b3, b4, a5, a6, b7, b8, b9, b10)) :
    wpX_unlink post (nI nl, nI nt, fg, a1, a2, a3, a4, a5, a6, a7, a8, a9, a10) x := by
  obtain ⟨k1, k2, k3, k4, k5⟩ := hK
  have hnl := k1.1
  unfold wpX_unlink
  dsimp only
  refine br_c (fun z => H0 (fw_rg0 z (by omega))) (fun z1 => ?_)
  obtain ⟨n, hn, en⟩ := nI_of z1
  subst en
  refine pk_lt n nl (fun z => ?_) (fun z => H0 (fun ⟨k, w1, w2⟩ => by
    have := fw_nI_inj w2 (by omega) (by omega)
    omega))
  obtain ⟨l, hl⟩ : ∃ l, nl = l + 1 := ⟨nl - 1, by omega⟩
  subst hl
  refine nm_r (nI_pred l) ?_
  refine pk_loop (σ := (Nat → Int32) × (Nat → Int32) × (Nat → Int32) × (Nat → Int32)) (fun m i u => wX_unlink_26 post (nI l) (nI nt) fg m (nI i) u.1 u.2.1 u.2.2.1 u.2.2.2 a5 a6 a7 a8 a9 a10)
    (fun _ u => fw_ln (l + 1) u.1 u.2.1 u.2.2.1 u.2.2.2) l n (a1, a2, a3, a4) (by omega) k1 ?_ ?_
  · intro m ⟨b1, b2, b3, b4⟩ h
    have hln : fw_ln l b1 b2 b3 b4 := ⟨by omega, fun k hk => h.2 k (by omega)⟩
    exact pk_le l l (fun _ => fw_rebuild hln k2 (fun e b7 b8 b9 b10 R' g1 g2 g3 g4 => H1 n l z rfl rfl e b1 b2 b3 b4 b7 b8 b9 b10 R' ⟨hln, k2, g1, g2, g4⟩)) (fun q => absurd q (by omega))
  · intro m i ⟨b1, b2, b3, b4⟩ hi h hw
    have hc : (nI i).toNatClampNeg = i := nI_clamp (by omega)
    have hc1 : (nI i + 1).toNatClampNeg = i + 1 := by rw [nI_1, nI_clamp (by omega)]
    have q1 : vp_in (nI i + 1) 12 := pk_in (i + 1) 12 (by omega) (nI_1 i)
    have q2 : vp_in (nI i) 12 := pk_in i 12 (by omega)
    refine pk_le l i (fun q => absurd q (by omega)) (fun _ => ⟨q1, q2, ?_⟩)
    dsimp only
    rw [hc, hc1]
    refine nm_e ⟨q1, q2, nm_e ⟨q1, q2, nm_e ⟨q1, q2, nm_e (nm_r (nI_1 i) (hw (upd b1 i (b1 (i + 1)), upd b2 i (b2 (i + 1)), upd b3 i (b3 (i + 1)), upd b4 i (b4 (i + 1))) ?_))⟩⟩⟩
    refine ⟨h.1, fun k hk => ?_⟩
    dsimp only
    by_cases c : k = i
    · rw [c, pk_us, pk_us, pk_us, pk_us]
      exact h.2 (i + 1) (by omega)
    · rw [pk_un c, pk_un c, pk_un c, pk_un c]
      exact h.2 k hk
theorem fw_putw {x y z : Int32} (hK : fw_KR nl nt R a1 a2 a3 a4 a5 a6 a7 a8 a10)
    (H0 : ¬ (fw_pl x ∧ fw_tm y ∧ fw_tm z ∧ nt < 20) → post (-1) (nI nl, nI nt, fg, a1, a2, a3, a4, a5, a6, a7, a8, a9, a10))
    (H1 : ∀ m a b, m < 7 → a < 16 → b < 16 → x = nI m → y = nI a → z = nI b → nt < 20 → ∀ b5 b6 b10, fw_KR nl (nt + 1) R a1 a2 a3 a4 b5 b6 a7 a8 b10 → (∃ k, k < nt + 1 ∧ b5 k = nI m ∧ b6 k = nI (16 * a + b)) →
      post (nI (nt + 1)) (nI nl, nI (nt + 1), fg, a1, a2, a3, a4, b5, b6, a7, a8, a9, b10)) :
    wpX_put post (nI nl, nI nt, fg, a1, a2, a3, a4, a5, a6, a7, a8, a9, a10) x y z := by
  obtain ⟨k1, k2, k3, k4, k5⟩ := hK
  have hnt := k2.1
  unfold wpX_put
  dsimp only
  refine fw_isPlace (fun q => br_t rfl (H0 (fun w => q w.1))) (fun ⟨m, hm, em⟩ => br_f (by decide) (fw_isTime (fun q => br_t rfl (H0 (fun w => q ⟨w.2.1, w.2.2.1⟩))) (fun ⟨a, ha, ea⟩ ⟨b, hb, eb⟩ => br_f (by decide) ?_)))
  subst em ea eb
  refine pk_lt nt 20 (fun c => ?_) (fun c => H0 (fun w => absurd w.2.2.2 (by omega)))
  rw [fw_ix2, nI_clamp (show nt < 2 ^ 31 by omega)]
  refine ⟨pk_in nt 20 c, nm_e ⟨pk_in nt 20 c, nm_e (nm_r (nI_1 nt) ?_)⟩⟩
  refine fw_count rfl rfl k3 hm (by omega) (fun b10 hb10 => H1 m a b hm ha hb rfl rfl rfl c (upd a5 nt (nI m)) (upd a6 nt (nI (16 * a + b))) b10 ⟨k1, fw_tk_s k2 c hm (by omega), k3, k4, fw_mk_put k5 hm (by omega) hb10⟩ ⟨nt, by omega, pk_us, pk_us⟩)
theorem fw_takew {x y z : Int32} (hK : fw_KR nl nt R a1 a2 a3 a4 a5 a6 a7 a8 a10)
    (H0 : (∀ m a b, m < 7 → a < 16 → b < 16 → x = nI m → y = nI a → z = nI b → ∀ k, k < nt → ¬ (a5 k = nI m ∧ a6 k = nI (16 * a + b))) → post (-1) (nI nl, nI nt, fg, a1, a2, a3, a4, a5, a6, a7, a8, a9, a10))
    (H1 : ∀ n, nt = n + 1 → ∀ b5 b6 b10, fw_KR nl n R a1 a2 a3 a4 b5 b6 a7 a8 b10 → post (nI n) (nI nl, nI n, fg, a1, a2, a3, a4, b5, b6, a7, a8, a9, b10)) :
    wpX_take post (nI nl, nI nt, fg, a1, a2, a3, a4, a5, a6, a7, a8, a9, a10) x y z := by
  obtain ⟨k1, k2, k3, k4, k5⟩ := hK
  have hnt := k2.1
  unfold wpX_take
  dsimp only
  have out : ¬ (fw_pl x ∧ fw_tm y ∧ fw_tm z) → wX_take_29 post x y z (nI nl) (nI nt) fg a1 a2 a3 a4 a5 a6 a7 a8 a9 a10 := fun h =>
    br_f (by decide) (H0 (fun m a b h1 h2 h3 e1 e2 e3 => absurd ⟨⟨m, h1, e1⟩, ⟨a, h2, e2⟩, ⟨b, h3, e3⟩⟩ h))
  refine fw_isPlace (fun q => br_t rfl (out (fun w => q w.1))) (fun ⟨m, hm, em⟩ => br_f (by decide) (fw_isTime (fun q => br_t rfl (out (fun w => q w.2))) (fun ⟨a, ha, ea⟩ ⟨b, hb, eb⟩ => br_f (by decide) ?_)))
  subst em ea eb
  rw [fw_ix2]
  refine fw_tokenAt hnt (fun q => br_f (by decide) (H0 (fun m' a' b' h1 h2 h3 e1 e2 e3 => ?_))) (fun k hk h5 h6 => br_t (nI_pos' (by omega)) ?_)
  · have e1 := fw_nI_inj e1 (by omega) (by omega)
    have e2 := fw_nI_inj e2 (by omega) (by omega)
    have e3 := fw_nI_inj e3 (by omega) (by omega)
    subst e1 e2 e3
    exact q
  · obtain ⟨n, en⟩ : ∃ n, nt = n + 1 := ⟨nt - 1, by omega⟩
    subst en
    refine nm_r (nI_pred n) ?_
    rw [fw_ix2, nI_clamp (show n < 2 ^ 31 by omega), nI_clamp (show k < 2 ^ 31 by omega)]
    refine ⟨pk_in n 20 (by omega), pk_in k 20 (by omega), nm_e ⟨pk_in n 20 (by omega), pk_in k 20 (by omega), nm_e ?_⟩⟩
    refine fw_count rfl rfl k3 hm (by omega) (fun b10 hb10 => H1 n rfl _ _ b10 ⟨k1, ?_, k3, k4, fw_mk_take k5 hk hm (by omega) h5 h6 hb10⟩)
    refine ⟨by omega, fun j hj => ?_⟩
    by_cases c : j = k
    · rw [c, pk_us, pk_us]
      exact k2.2 n (by omega)
    · rw [pk_un c, pk_un c]
      exact k2.2 j (by omega)
theorem fw_pass {x y z : Int32} (hK : fw_KR nl nt R a1 a2 a3 a4 a5 a6 a7 a8 a10)
    (H0 : post (-1) (nI nl, nI nt, fg, a1, a2, a3, a4, a5, a6, a7, a8, a9, a10))
    (H1 : 0 < nl → 0 < nt → post (-2) (nI nl, nI nt, fg, a1, a2, a3, a4, a5, a6, a7, a8, a9, a10))
    (H2 : 0 < nl → 0 < nt → ∀ b5 b6 b10, fw_KR nl nt R a1 a2 a3 a4 b5 b6 a7 a8 b10 → post 0 (nI nl, nI nt, fg, a1, a2, a3, a4, b5, b6, a7, a8, a9, b10)) :
    wpX_pass post (nI nl, nI nt, fg, a1, a2, a3, a4, a5, a6, a7, a8, a9, a10) x y z := by
  obtain ⟨k1, k2, k3, k4, k5⟩ := hK
  have hnt := k2.1
  have hnl := k1.1
  unfold wpX_pass
  dsimp only
  refine br_c (fun _ => H0) (fun z1 => ?_)
  obtain ⟨l, hl, el⟩ := nI_of z1
  subst el
  refine pk_le nl l (fun _ => H0) (fun c => fw_isTime (fun _ => br_t rfl H0) (fun ⟨a, ha, ea⟩ ⟨b, hb, eb⟩ => br_f (by decide) ⟨pk_in l 12 (by omega), ?_⟩))
  subst ea eb
  obtain ⟨i, j, p, q, l1, l2, l3, l4, l5, l6, l7, l8⟩ := k1.2 l c
  rw [nI_clamp (show l < 2 ^ 31 by omega), l5, fw_ix2]
  refine fw_tokenAt hnt (fun _ => br_f (by decide) H0) (fun k hk h5 h6 => br_t (nI_pos' (by omega)) ⟨pk_in l 12 (by omega), ?_⟩)
  rw [l7, l8]
  refine pk_lt 15 (a + p) (fun _ => H1 (by omega) (by omega)) (fun d1 => ⟨pk_in l 12 (by omega), ?_⟩) rfl (nI_add _ _)
  refine pk_le (b + q) 15 (fun d2 => ⟨pk_in k 20 (by omega), pk_in k 20 (by omega), ?_⟩) (fun _ => H1 (by omega) (by omega)) (nI_add _ _)
  rw [nI_clamp (show k < 2 ^ 31 by omega)]
  refine fw_count h5 h6 k3 l1 (by omega) (fun b10 hb10 => ?_)
  have q1 : vp_in (nI l) 12 := pk_in l 12 (by omega)
  have q2 : vp_in (nI k) 20 := pk_in k 20 (by omega)
  have e1 : a6 k + ((16 * a3 l) + a4 l) = nI (16 * (a + p) + (b + q)) := by
    rw [h6, l7, l8, fw_ix2, nI_add]
    exact congrArg nI (by omega)
  dsimp only
  rw [e1]
  refine ⟨q1, q2, nm_r (congrArg (upd a5 k) l6) ⟨q2, q1, q1, q2, nm_e ⟨q2, q2, ?_⟩⟩⟩
  refine fw_count pk_us pk_us k3 l2 (by omega) (fun b10' hb10' => H2 (by omega) (by omega) _ _ b10' ⟨k1, fw_tk_up k2 l2 (by omega), k3, k4, ?_⟩)
  exact fw_mk_pass k5 hk l1 (by omega) l2 (by omega) h5 h6 hb10 hb10'
end
section
variable {post : St1 → Prop}
theorem fw_init (H : ∀ e b1 b2 b3 b4 b5 b6 b7 b8 b9 b10 R, fw_KR 0 0 R b1 b2 b3 b4 b5 b6 b7 b8 b10 → post (nI 0, nI 0, e, b1, b2, b3, b4, b5, b6, b7, b8, b9, b10)) : wpX_init post 10 2900 (0, 0, 0) := by
  unfold wpX_init
  dsimp only
  refine ⟨by omega, by omega, by omega, by omega, by omega, by omega, by omega, by omega, by omega, by omega, by omega, by omega, by omega, by omega, by omega, by omega, by omega, by omega, by omega, by omega, ?_⟩
  have hl : fw_ln 0 (fun _ => 0) (fun _ => 0) (fun _ => 0) (fun _ => 0) := ⟨by omega, fun k hk => absurd hk (by omega)⟩
  have ht : fw_tk 0 (fun _ => 0) (fun _ => 0) := ⟨by omega, fun k hk => absurd hk (by omega)⟩
  exact fw_rebuild (nl := 0) (nt := 0) hl ht (fun e b7 b8 b9 b10 R g1 g2 g3 g4 => H e _ _ _ _ _ _ b7 b8 b9 b10 R ⟨hl, ht, g1, g2, g4⟩)
end
end
section
/-! the law -/
theorem fw_ne1 {n : Nat} (h : n < 2 ^ 31) : ¬ nI n = -1 := by
  intro e
  have h1 := nI_pos' h
  rw [e] at h1
  exact absurd h1 (by decide)
theorem fw_none {R : Nat → List (Nat × Nat)} {a5 a6 a10 : Nat → Int32} (h : fw_mk R 0 a5 a6 a10) : fw_nf a10 3 16 = 0 := by
  rw [fw_nf_0]
  have h1 := fw_bst_16 a10 3 16
  by_cases c : fw_bst a10 3 16 ≤ 15
  · obtain ⟨x, q1, y, q2, q3⟩ := (fw_bst_iff a10 3 16 15 (by omega)).mp c
    rw [h (256 * 3 + 16 * x + y) (by omega)] at q3
    exact absurd (show nI (fw_tot R a5 a6 (256 * 3 + 16 * x + y) 0) ≤ 0 from nI_le (a := 0) (b := 0) (by omega) (by omega)) q3
  · omega
section
variable {post : Int32 → Prop} {L : Nat} {xs : Nat → Int32} {J : Int32 → Int32 → Int32 → Int32 → Int32 → Int32 → (Nat → Int32) → (Nat → Int32) → (Nat → Int32) → (Nat → Int32) → (Nat → Int32) → (Nat → Int32) → (Nat → Int32) → (Nat → Int32) → (Nat → Int32) → (Nat → Int32) → Prop} {kc ks nl nt i : Nat} {x5 x6 x7 x8 x9 fg : Int32} {a1 a2 a3 a4 a5 a6 a7 a8 a9 a10 : Nat → Int32} {R : Nat → List (Nat × Nat)}
def fw_HJ (J : Int32 → Int32 → Int32 → Int32 → Int32 → Int32 → (Nat → Int32) → (Nat → Int32) → (Nat → Int32) → (Nat → Int32) → (Nat → Int32) → (Nat → Int32) → (Nat → Int32) → (Nat → Int32) → (Nat → Int32) → (Nat → Int32) → Prop) (i : Nat) : Prop :=
  ∀ nl nt fg a1 a2 a3 a4 a5 a6 a7 a8 a9 a10 R, fw_KR nl nt R a1 a2 a3 a4 a5 a6 a7 a8 a10 → J (nI nl) (nI nt) (nI (i + 5)) (nI nl) (nI nt) fg a1 a2 a3 a4 a5 a6 a7 a8 a9 a10
theorem fw_723 (hJ : fw_HJ J i) (hK : fw_KR nl nt R a1 a2 a3 a4 a5 a6 a7 a8 a10) : wL_law_723 post L xs J (nI nl) (nI nt) (nI i) x6 x7 kc ks (nI nl) (nI nt) fg a1 a2 a3 a4 a5 a6 a7 a8 a9 a10 := by
  have k3 := hK.2.2.1
  have k4 := hK.2.2.2.1
  have go : J (nI nl) (nI nt) (nI (i + 5)) (nI nl) (nI nt) fg a1 a2 a3 a4 a5 a6 a7 a8 a9 a10 := hJ nl nt fg a1 a2 a3 a4 a5 a6 a7 a8 a9 a10 R hK
  have e5 : nI i + 5 = nI (i + 5) := nI_add i 5
  unfold wL_law_723
  refine fw_shortest k3 (fun h => ?_) (fun p q hp hq ep eq => ?_)
  · have k : wL_law_761 post L xs J (nI nl) (nI nt) (nI i) x6 x7 (-1) kc ks (nI nl) (nI nt) fg a1 a2 a3 a4 a5 a6 a7 a8 a9 a10 := br_t rfl (br_t rfl (nm_r e5 go))
    exact br_c (fun _ => k) (fun z1 => br_c (fun _ => k) (fun z2 => br_c (fun _ => k) (fun z3 => br_c (fun _ => k) (fun z4 =>
      absurd ⟨fw_rg2 (N := 6) rfl z1 z2 (by omega), fw_rg2 (N := 6) rfl z3 z4 (by omega)⟩ h))))
  · subst ep eq
    have hl := fw_len (k3 (7 * p + q) (by omega)).1
    have k787 : wL_law_787 post L xs J (nI nl) (nI nt) (nI i) (nI (R (7 * p + q)).length) kc ks (nI nl) (nI nt) fg a1 a2 a3 a4 a5 a6 a7 a8 a9 a10 := pk_le (R (7 * p + q)).length 19 (fun _ => nm_r e5 go) (fun z => absurd z (by omega))
    refine br_f (nI_pos (by omega)) (br_f (nI_nlt (a := 6) (by omega) (by omega)) (br_f (nI_pos (by omega)) (br_f (nI_nlt (a := 6) (by omega) (by omega)) ?_)))
    refine br_f (by decide) (br_f (nI_pos (by omega)) (pk_eq p q (fun c => br_t ?_ k787) (fun _ => k787)))
    subst c
    rw [k4 (7 * p + p) (by omega) (by omega)]
    rfl
theorem fw_683 (hJ : fw_HJ J i) (hK : fw_KR nl nt R a1 a2 a3 a4 a5 a6 a7 a8 a10) : wL_law_683 post L xs J (nI nl) (nI nt) (nI i) x6 x7 x8 x9 kc ks (nI nl) (nI nt) fg a1 a2 a3 a4 a5 a6 a7 a8 a9 a10 := by
  obtain ⟨k1, k2, k3, k4, k5⟩ := hK
  have hnt := k2.1
  have k723 : wL_law_723 post L xs J (nI nl) (nI nt) (nI i) x6 x7 kc ks (nI nl) (nI nt) fg a1 a2 a3 a4 a5 a6 a7 a8 a9 a10 := fw_723 hJ ⟨k1, k2, k3, k4, k5⟩
  unfold wL_law_683
  refine fw_fits k3 k4 k2 k5 (br_f (by decide) (fw_fits k3 k4 k2 k5 (br_f (by decide) (pk_eq nt 0 (fun z => ?_) (fun _ => k723)))))
  refine fw_fr (p := 3) (by omega) (br_t ?_ k723)
  rw [z] at k5
  rw [fw_none k5]
  rfl
theorem fw_270a {p q : Int32} (hJ : fw_HJ J i) (hK : fw_KR nl nt R a1 a2 a3 a4 a5 a6 a7 a8 a10) (h : ¬ (fw_pl x6 ∧ fw_pl x7 ∧ fw_q3 p ∧ fw_q3 q ∧ nl < 12)) : wL_law_269 post L xs J (nI nl) (nI nt) (nI i) x6 x7 x8 x9 p q kc ks (nI nl) (nI nt) fg a1 a2 a3 a4 a5 a6 a7 a8 a9 a10 := by
  unfold wL_law_269 wL_law_270
  refine fw_link hK (fun _ => br_t rfl (br_t rfl (br_t rfl (br_t rfl (fw_683 hJ hK))))) (fun h1 h2 h3 h4 h5 => absurd ⟨h1, h2, h3, h4, h5⟩ h)
theorem fw_270b {p q : Int32} (hJ : fw_HJ J i) (hK : fw_KR nl nt R a1 a2 a3 a4 a5 a6 a7 a8 a10) (h : fw_pl x6 ∧ fw_pl x7 ∧ fw_q3 p ∧ fw_q3 q ∧ nl < 12) : wL_law_270 post L xs J (nI nl) (nI nt) (nI i) x6 x7 x8 x9 p q 1 kc ks (nI nl) (nI nt) fg a1 a2 a3 a4 a5 a6 a7 a8 a9 a10 := by
  unfold wL_law_270
  refine fw_link hK (fun z => absurd h z) (fun h1 h2 h3 h4 h5 e b1 b2 b3 b4 b7 b8 b9 b10 R' g1 g2 => br_f (by decide) ?_)
  have k345 : wL_law_345 post L xs J (nI (nl + 1)) (nI nt) (nI i) x6 x7 x8 x9 kc ks (nI (nl + 1)) (nI nt) e b1 b2 b3 b4 a5 a6 b7 b8 b9 b10 := fw_683 hJ g1
  have k4 := g1.2.2.2.1
  refine br_t (nI_1 nl).symm (br_f (by decide) (br_f (by decide) ?_))
  rw [nI_1]
  refine fw_shortest g1.2.2.1 (fun z => absurd ⟨h1, h2⟩ z) (fun a b ha hb ea eb => br_f ?_ ?_)
  · have hl := fw_len (g1.2.2.1 (7 * a + b) (by omega)).1
    have hp := g2 a b ha hb ea eb
    exact nI_nlt (b := 1) (by omega) (by omega)
  · refine fw_shortest g1.2.2.1 (fun z => absurd ⟨h2, h2⟩ z) (fun c d hc hd ec ed => br_t ?_ k345)
    have e1 := fw_nI_inj (ec.symm.trans ed) (by omega) (by omega)
    subst e1
    rw [k4 (7 * c + c) (by omega) (by omega)]
    rfl
theorem fw_211 {p q : Int32} (hJ : fw_HJ J i) (hK : fw_KR nl nt R a1 a2 a3 a4 a5 a6 a7 a8 a10) : wL_law_211 post L xs J (nI nl) (nI nt) (nI i) x6 x7 x8 x9 p q kc ks (nI nl) (nI nt) fg a1 a2 a3 a4 a5 a6 a7 a8 a9 a10 := by
  have hnl := hK.1.1
  have no : ¬ (fw_pl x6 ∧ fw_pl x7 ∧ fw_q3 p ∧ fw_q3 q ∧ nl < 12) → wL_law_269 post L xs J (nI nl) (nI nt) (nI i) x6 x7 x8 x9 p q kc ks (nI nl) (nI nt) fg a1 a2 a3 a4 a5 a6 a7 a8 a9 a10 := fun h => fw_270a hJ hK h
  refine br_c (fun z => no (fun w => fw_rg0 z (by omega) w.1)) (fun z1 => br_c (fun z => no (fun w => fw_rg1 (N := 6) rfl z (by omega) w.1)) (fun z2 => ?_))
  refine br_c (fun z => no (fun w => fw_rg0 z (by omega) w.2.1)) (fun z3 => br_c (fun z => no (fun w => fw_rg1 (N := 6) rfl z (by omega) w.2.1)) (fun z4 => ?_))
  refine br_c (fun z => no (fun w => fw_rg0 z (by omega) w.2.2.1)) (fun z5 => br_c (fun z => no (fun w => fw_rg1 (N := 3) rfl z (by omega) w.2.2.1)) (fun z6 => ?_))
  refine br_c (fun z => no (fun w => fw_rg0 z (by omega) w.2.2.2.1)) (fun z7 => br_c (fun z => no (fun w => fw_rg1 (N := 3) rfl z (by omega) w.2.2.2.1)) (fun z8 => ?_))
  refine pk_le 12 nl (fun z => no (fun w => absurd w.2.2.2.2 (by omega))) (fun z => fw_270b hJ hK ?_)
  exact ⟨fw_rg2 (N := 6) rfl z1 z2 (by omega), fw_rg2 (N := 6) rfl z3 z4 (by omega), fw_rg2 (N := 3) rfl z5 z6 (by omega), fw_rg2 (N := 3) rfl z7 z8 (by omega), z⟩
theorem fw_177 (hJ : fw_HJ J i) (hK : fw_KR nl nt R a1 a2 a3 a4 a5 a6 a7 a8 a10) : wL_law_177 post L xs J (nI nl) (nI nt) (nI i) x5 x6 x7 x8 x9 kc ks (nI nl) (nI nt) fg a1 a2 a3 a4 a5 a6 a7 a8 a9 a10 :=
  br_c (fun _ => br_c (fun _ => fw_211 hJ hK) (fun _ => fw_211 hJ hK)) (fun _ => br_c (fun _ => fw_211 hJ hK) (fun _ => fw_211 hJ hK))
theorem fw_422a (hJ : fw_HJ J i) (hK : fw_KR nl nt R a1 a2 a3 a4 a5 a6 a7 a8 a10) (h : ¬ (fw_pl x6 ∧ fw_tm x8 ∧ fw_tm x9 ∧ nt < 20)) : wL_law_421 post L xs J (nI nl) (nI nt) (nI i) x6 x7 x8 x9 kc ks (nI nl) (nI nt) fg a1 a2 a3 a4 a5 a6 a7 a8 a9 a10 := by
  unfold wL_law_421 wL_law_422
  refine fw_putw hK (fun _ => br_t rfl (br_t rfl (br_t rfl (br_t rfl (fw_683 hJ hK))))) (fun m a b h1 h2 h3 e1 e2 e3 h5 => absurd ⟨⟨m, h1, e1⟩, ⟨a, h2, e2⟩, ⟨b, h3, e3⟩, h5⟩ h)
theorem fw_422b (hJ : fw_HJ J i) (hK : fw_KR nl nt R a1 a2 a3 a4 a5 a6 a7 a8 a10) (h : fw_pl x6 ∧ fw_tm x8 ∧ fw_tm x9 ∧ nt < 20) : wL_law_422 post L xs J (nI nl) (nI nt) (nI i) x6 x7 x8 x9 1 kc ks (nI nl) (nI nt) fg a1 a2 a3 a4 a5 a6 a7 a8 a9 a10 := by
  unfold wL_law_422
  refine fw_putw hK (fun z => absurd h z) (fun m a b h1 h2 h3 e1 e2 e3 h5 b5 b6 b10 g1 g2 => br_f (by decide) ?_)
  have k683 : wL_law_683 post L xs J (nI nl) (nI (nt + 1)) (nI i) x6 x7 x8 x9 kc ks (nI nl) (nI (nt + 1)) fg a1 a2 a3 a4 b5 b6 a7 a8 a9 b10 := fw_683 hJ g1
  have hps := fw_own (fun r hr => (g1.2.2.1 r hr).1) g1.2.2.2.1 g1.2.1 g1.2.2.2.2 h1 h2 h3 g2
  refine br_t (nI_1 nt).symm (br_f (by decide) ?_)
  subst e1 e2 e3
  refine fw_poss h1 h2 h3 (fun _ => br_t rfl (br_f (by decide) ?_)) (fun z => absurd hps z)
  rw [nI_1]
  exact k683
theorem fw_375 (hJ : fw_HJ J i) (hK : fw_KR nl nt R a1 a2 a3 a4 a5 a6 a7 a8 a10) : wL_law_375 post L xs J (nI nl) (nI nt) (nI i) x6 x7 x8 x9 kc ks (nI nl) (nI nt) fg a1 a2 a3 a4 a5 a6 a7 a8 a9 a10 := by
  have hnt := hK.2.1.1
  have no : ¬ (fw_pl x6 ∧ fw_tm x8 ∧ fw_tm x9 ∧ nt < 20) → wL_law_421 post L xs J (nI nl) (nI nt) (nI i) x6 x7 x8 x9 kc ks (nI nl) (nI nt) fg a1 a2 a3 a4 a5 a6 a7 a8 a9 a10 := fun h => fw_422a hJ hK h
  refine br_c (fun z => no (fun w => fw_rg0 z (by omega) w.1)) (fun z1 => br_c (fun z => no (fun w => fw_rg1 (N := 6) rfl z (by omega) w.1)) (fun z2 => ?_))
  refine br_c (fun z => no (fun w => fw_rg0 z (by omega) w.2.1)) (fun z3 => br_c (fun z => no (fun w => fw_rg1 (N := 15) rfl z (by omega) w.2.1)) (fun z4 => ?_))
  refine br_c (fun z => no (fun w => fw_rg0 z (by omega) w.2.2.1)) (fun z5 => br_c (fun z => no (fun w => fw_rg1 (N := 15) rfl z (by omega) w.2.2.1)) (fun z6 => ?_))
  refine pk_le 20 nt (fun z => no (fun w => absurd w.2.2.2 (by omega))) (fun z => fw_422b hJ hK ?_)
  exact ⟨fw_rg2 (N := 6) rfl z1 z2 (by omega), fw_rg2 (N := 15) rfl z3 z4 (by omega), fw_rg2 (N := 15) rfl z5 z6 (by omega), z⟩
theorem fw_499 (hJ : fw_HJ J i) (hK : fw_KR nl nt R a1 a2 a3 a4 a5 a6 a7 a8 a10) : wL_law_499 post L xs J (nI nl) (nI nt) (nI i) x6 x7 x8 x9 kc ks (nI nl) (nI nt) fg a1 a2 a3 a4 a5 a6 a7 a8 a9 a10 := by
  have hnt := hK.2.1.1
  unfold wL_law_499
  refine fw_takew hK (fun h => br_t rfl (br_t rfl ?_)) (fun n en b5 b6 b10 g1 => ?_)
  · have k547 : wL_law_547 post L xs J (nI nl) (nI nt) (nI i) x6 x7 x8 x9 (-1) kc ks (nI nl) (nI nt) fg a1 a2 a3 a4 a5 a6 a7 a8 a9 a10 := br_f (by decide) (fw_683 hJ hK)
    refine fw_ready hK.2.2.1 hK.2.1 (fun _ => br_f (by decide) k547) (fun m a b h1 h2 h3 e1 e2 e3 => ⟨br_f (by decide) k547, fun ⟨k, w1, w2, w3⟩ _ => ?_⟩)
    exact absurd ⟨w2, w3⟩ (h m a b h1 h2 h3 e1 e2 e3 k w1)
  · subst en
    have k683 : wL_law_683 post L xs J (nI nl) (nI n) (nI i) x6 x7 x8 x9 kc ks (nI nl) (nI n) fg a1 a2 a3 a4 b5 b6 a7 a8 a9 b10 := fw_683 hJ g1
    exact br_f (fw_ne1 (by omega)) (br_t (nI_pred n).symm (br_f (fw_ne1 (by omega)) (br_t (nI_pos' (by omega)) k683)))
theorem fw_584a (hJ : fw_HJ J i) (hK : fw_KR nl nt R a1 a2 a3 a4 a5 a6 a7 a8 a10) (h : ¬ ∃ n, n < nl ∧ x6 = nI n) : wL_law_583 post L xs J (nI nl) (nI nt) (nI i) x6 x7 x8 x9 kc ks (nI nl) (nI nt) fg a1 a2 a3 a4 a5 a6 a7 a8 a9 a10 := by
  unfold wL_law_583 wL_law_584
  exact fw_unlink hK (fun _ => br_t rfl (br_t rfl (br_t rfl (fw_683 hJ hK)))) (fun n l h1 h2 => absurd ⟨n, h1, h2⟩ h)
theorem fw_584b (hJ : fw_HJ J i) (hK : fw_KR nl nt R a1 a2 a3 a4 a5 a6 a7 a8 a10) (h : ∃ n, n < nl ∧ x6 = nI n) : wL_law_584 post L xs J (nI nl) (nI nt) (nI i) x6 x7 x8 x9 1 kc ks (nI nl) (nI nt) fg a1 a2 a3 a4 a5 a6 a7 a8 a9 a10 := by
  unfold wL_law_584
  refine fw_unlink hK (fun z => absurd h z) (fun n l h1 h2 el e b1 b2 b3 b4 b7 b8 b9 b10 R' g1 => br_f (by decide) ?_)
  subst el
  refine br_t (nI_pred l).symm (br_f (by decide) ?_)
  rw [nI_pred]
  exact fw_683 hJ g1
theorem fw_646 {z0 : Int32} (hJ : fw_HJ J i) (hK : fw_KR nl nt R a1 a2 a3 a4 a5 a6 a7 a8 a10) : wL_law_646 post L xs J (nI nl) (nI nt) (nI i) x6 x7 x8 x9 z0 kc ks (nI nl) (nI nt) fg a1 a2 a3 a4 a5 a6 a7 a8 a9 a10 := by
  have hnt := hK.2.1.1
  have hnl := hK.1.1
  unfold wL_law_646
  refine fw_pass hK (br_f (by decide) (br_f (by decide) (br_t rfl (fw_683 hJ hK)))) (fun h1 h2 => ?_) (fun h1 h2 b5 b6 b10 g1 => ?_)
  · exact br_f (by decide) (br_f (by decide) (br_f (by decide) (br_f (nI_ne0 h2 (by omega)) (br_f (nI_ne0 h1 (by omega)) (fw_683 hJ hK)))))
  · exact br_f (by decide) (br_f (by decide) (br_f (by decide) (br_f (nI_ne0 h2 (by omega)) (br_f (nI_ne0 h1 (by omega)) (fw_683 hJ g1)))))
theorem fw_155 (hJ : fw_HJ J i) (hK : fw_KR nl nt R a1 a2 a3 a4 a5 a6 a7 a8 a10) : wL_law_155 post L xs J (nI nl) (nI nt) (nI i) x5 x6 x7 x8 x9 kc ks (nI nl) (nI nt) fg a1 a2 a3 a4 a5 a6 a7 a8 a9 a10 := by
  have hnl := hK.1.1
  have c1 : wL_law_177 post L xs J (nI nl) (nI nt) (nI i) x5 x6 x7 x8 x9 kc ks (nI nl) (nI nt) fg a1 a2 a3 a4 a5 a6 a7 a8 a9 a10 := fw_177 hJ hK
  have c2 : wL_law_375 post L xs J (nI nl) (nI nt) (nI i) x6 x7 x8 x9 kc ks (nI nl) (nI nt) fg a1 a2 a3 a4 a5 a6 a7 a8 a9 a10 := fw_375 hJ hK
  have c3 : wL_law_499 post L xs J (nI nl) (nI nt) (nI i) x6 x7 x8 x9 kc ks (nI nl) (nI nt) fg a1 a2 a3 a4 a5 a6 a7 a8 a9 a10 := fw_499 hJ hK
  refine br_c (fun _ => c1) (fun _ => br_c (fun _ => c1) (fun _ => br_c (fun _ => c1) (fun _ => br_c (fun _ => c2) (fun _ => br_c (fun _ => c2) (fun _ => br_c (fun _ => c2) (fun _ => br_c (fun _ => c2) (fun _ => br_c (fun _ => c3) (fun _ => br_c (fun _ => c3) (fun _ => br_c (fun _ => ?_) (fun _ => br_c (fun _ => fw_646 hJ hK) (fun _ => fw_646 hJ hK)))))))))))
  refine br_c (fun z => fw_584a hJ hK (fw_rg0 z (by omega))) (fun z => ?_)
  obtain ⟨n, hn, en⟩ := nI_of z
  subst en
  refine pk_le nl n (fun c => fw_584a hJ hK (fun ⟨k, w1, w2⟩ => ?_)) (fun c => fw_584b hJ hK ⟨n, c, rfl⟩)
  have := fw_nI_inj w2 (by omega) (by omega)
  omega
theorem fw_70 {z0 : Int32} (hJ : fw_HJ J i) (hK : fw_KR nl nt R a1 a2 a3 a4 a5 a6 a7 a8 a10) (hi : i + 5 ≤ L) (hL : L ≤ 260) : wL_law_70 post L xs J (nI nl) (nI nt) (nI i) x5 z0 kc ks (nI nl) (nI nt) fg a1 a2 a3 a4 a5 a6 a7 a8 a9 a10 := by
  have q2 : vp_in (nI i + 2) L := pk_in (i + 2) L (by omega) (nI_add i 2)
  have q3 : vp_in (nI i + 3) L := pk_in (i + 3) L (by omega) (nI_add i 3)
  have q4 : vp_in (nI i + 4) L := pk_in (i + 4) L (by omega) (nI_add i 4)
  have k128 : ∀ x6 x7 x8, wL_law_128 post L xs J (nI nl) (nI nt) (nI i) x5 x6 x7 x8 kc ks (nI nl) (nI nt) fg a1 a2 a3 a4 a5 a6 a7 a8 a9 a10 := fun x6 x7 x8 => br_c (fun _ => ⟨q4, fw_155 hJ hK⟩) (fun _ => ⟨q4, fw_155 hJ hK⟩)
  have k101 : ∀ x6 x7, wL_law_101 post L xs J (nI nl) (nI nt) (nI i) x5 x6 x7 kc ks (nI nl) (nI nt) fg a1 a2 a3 a4 a5 a6 a7 a8 a9 a10 := fun x6 x7 => br_c (fun _ => ⟨q3, k128 _ _ _⟩) (fun _ => ⟨q3, k128 _ _ _⟩)
  exact br_c (fun _ => ⟨q2, k101 _ _⟩) (fun _ => ⟨q2, by decide, k101 _ _⟩)
theorem fw_811 {fl ft : Int32} (H : post 1) : wL_law_811 post L xs kc ks fl ft fg a1 a2 a3 a4 a5 a6 a7 a8 a9 a10 := by
  unfold wL_law_811
  refine fw_front (fun _ => br_t rfl (fw_frontAt (fun _ => br_t rfl H) (fun p hp e => ?_))) (fun p hp e => ?_)
  · exact absurd e.symm (fw_ne1 (by omega))
  · have := fw_nI_inj (a := 7) e (by omega) (by omega)
    omega
end
def fw_LI15 (L : Nat) (x2 x3 x4 fl ft : Int32) (a1 a2 a3 a4 a5 a6 a7 a8 a9 a10 : Nat → Int32) : Prop := ∃ nl nt t R, 5 * t ≤ 200 ∧ x2 = nI nl ∧ x3 = nI nt ∧ x4 = nI (5 * t) ∧ fl = nI nl ∧ ft = nI nt ∧ fw_KR nl nt R a1 a2 a3 a4 a5 a6 a7 a8 a10
theorem i_vc (xs : Nat → Int32) (L : Nat) (hL : L ≤ 260) : wpL_law (fun r => r = 1) L xs := by
  unfold wpL_law
  refine ⟨10, 2900, by omega, by omega, fw_init (fun fg a1 a2 a3 a4 a5 a6 a7 a8 a9 a10 R hK => ?_)⟩
  dsimp only
  refine lp16 (fun n x2 x3 x4 fl ft fg a1 a2 a3 a4 a5 a6 a7 a8 a9 a10 => wL_law_15 (fun r => r = 1) L xs (1 + 10) (13 + 2900) n x2 x3 x4 fl ft fg a1 a2 a3 a4 a5 a6 a7 a8 a9 a10)
    (fun x2 x3 x4 fl ft _ a1 a2 a3 a4 a5 a6 a7 a8 a9 a10 => fw_LI15 L x2 x3 x4 fl ft a1 a2 a3 a4 a5 a6 a7 a8 a9 a10) (fun _ _ x4 _ _ _ _ _ _ _ _ _ _ _ _ _ => 300 - x4.toNatClampNeg) ?_ 0 0 0 (nI 0) (nI 0) fg a1 a2 a3 a4 a5 a6 a7 a8 a9 a10 ⟨0, 0, 0, R, by omega, rfl, rfl, rfl, rfl, rfl, hK⟩
  intro n x2 x3 x4 fl ft fg a1 a2 a3 a4 a5 a6 a7 a8 a9 a10 ⟨nl, nt, t, R, h1, h2, h3, h4, h5, h6, h7⟩ hw
  subst h2 h3 h4 h5 h6
  refine pk_lt L (5 * t + 5) (fun _ => fw_811 rfl) (fun z1 => pk_le 200 (5 * t) (fun _ => fw_811 rfl) (fun z2 => ⟨pk_in (5 * t) L (by omega), nm_e ?_⟩)) rfl (nI_add (5 * t) 5)
  have hJ : fw_HJ (wL_law_15 (fun r => r = 1) L xs (1 + 10) (13 + 2900) n) (5 * t) := by
    intro nl' nt' fg' c1 c2 c3 c4 c5 c6 c7 c8 c9 c10 R' hK'
    refine hw (nI nl') (nI nt') (nI (5 * t + 5)) (nI nl') (nI nt') fg' c1 c2 c3 c4 c5 c6 c7 c8 c9 c10 ⟨nl', nt', t + 1, R', by omega, rfl, rfl, rfl, rfl, rfl, hK'⟩ ?_
    rw [nI_clamp (show 5 * t + 5 < 2 ^ 31 by omega), nI_clamp (show 5 * t < 2 ^ 31 by omega)]
    omega
  have q1 : vp_in (nI (5 * t) + 1) L := pk_in (5 * t + 1) L (by omega) (nI_1 _)
  exact br_c (fun _ => ⟨q1, fw_70 hJ h7 (by omega) hL⟩) (fun _ => ⟨q1, by decide, fw_70 hJ h7 (by omega) hL⟩)
end
