section
/-! weights and walks: no program in sight -/
def fw_le (x y : Nat × Nat) : Prop := x.1 ≤ y.1 ∧ x.2 ≤ y.2
def fw_ad (x y : Nat × Nat) : Nat × Nat := (x.1 + y.1, x.2 + y.2)
theorem fw_le_rfl (x : Nat × Nat) : fw_le x x := ⟨Nat.le_refl _, Nat.le_refl _⟩
theorem fw_le_tr {x y z : Nat × Nat} (h : fw_le x y) (g : fw_le y z) : fw_le x z := ⟨Nat.le_trans h.1 g.1, Nat.le_trans h.2 g.2⟩
theorem fw_le_ad {x y x' y' : Nat × Nat} (h : fw_le x x') (g : fw_le y y') : fw_le (fw_ad x y) (fw_ad x' y') := ⟨Nat.add_le_add h.1 g.1, Nat.add_le_add h.2 g.2⟩
theorem fw_le_r (x y : Nat × Nat) : fw_le y (fw_ad x y) := ⟨Nat.le_add_left _ _, Nat.le_add_left _ _⟩
theorem fw_le_l (x y : Nat × Nat) : fw_le x (fw_ad x y) := ⟨Nat.le_add_right _ _, Nat.le_add_right _ _⟩
theorem fw_ad_as (x y z : Nat × Nat) : fw_ad x (fw_ad y z) = fw_ad (fw_ad x y) z := by
  simp only [fw_ad, Nat.add_assoc]
theorem fw_ad_0 (x : Nat × Nat) : fw_ad (0, 0) x = x := by
  simp only [fw_ad, Nat.zero_add]
theorem fw_ad_0r (x : Nat × Nat) : fw_ad x (0, 0) = x := by
  simp only [fw_ad, Nat.add_zero]
/-- the last vertex of a walk from i over the list -/
def fw_lst : Nat → List Nat → Nat
  | i, [] => i
  | _, v :: r => fw_lst v r
/-- a walk from i over the vertices of the list, of the weight w -/
def fw_wk (E : Nat → Nat → Nat × Nat → Prop) : Nat → List Nat → Nat × Nat → Prop
  | _, [], w => w = (0, 0)
  | i, v :: r, w => ∃ d w', E i v d ∧ fw_wk E v r w' ∧ w = fw_ad d w'
theorem fw_lst_app (i : Nat) (a b : List Nat) : fw_lst i (a ++ b) = fw_lst (fw_lst i a) b := by
  induction a generalizing i with
  | nil => rfl
  | cons v r ih => exact ih v
theorem fw_lst_1 (i x : Nat) (a : List Nat) : fw_lst i (a ++ [x]) = x := by
  rw [fw_lst_app]; rfl
theorem fw_lst_in (i : Nat) (r : List Nat) : r = [] ∨ fw_lst i r ∈ r := by
  induction r generalizing i with
  | nil => exact Or.inl rfl
  | cons v r ih =>
    refine Or.inr ?_
    show fw_lst v r ∈ v :: r
    rcases ih v with h | h
    · subst h
      exact List.mem_cons_self
    · exact List.mem_cons_of_mem _ h
theorem fw_wk_app {E : Nat → Nat → Nat × Nat → Prop} {a b : List Nat} : ∀ {i : Nat} {w : Nat × Nat}, fw_wk E i (a ++ b) w → ∃ w1 w2, fw_wk E i a w1 ∧ fw_wk E (fw_lst i a) b w2 ∧ w = fw_ad w1 w2 := by
  induction a with
  | nil => exact fun {i w} h => ⟨(0, 0), w, rfl, h, (fw_ad_0 w).symm⟩
  | cons v r ih =>
    intro i w h
    obtain ⟨d, w', he, hw, rfl⟩ := h
    obtain ⟨w1, w2, h1, h2, rfl⟩ := ih hw
    exact ⟨fw_ad d w1, w2, ⟨d, w1, he, h1, rfl⟩, h2, fw_ad_as _ _ _⟩
theorem fw_wk_cat {E : Nat → Nat → Nat × Nat → Prop} {a b : List Nat} {w2 : Nat × Nat} : ∀ {i : Nat} {w1 : Nat × Nat}, fw_wk E i a w1 → fw_wk E (fw_lst i a) b w2 → fw_wk E i (a ++ b) (fw_ad w1 w2) := by
  induction a with
  | nil =>
    intro i w1 h g
    have e : w1 = (0, 0) := h
    rw [e, fw_ad_0]
    exact g
  | cons v r ih =>
    intro i w1 h g
    obtain ⟨d, w', he, hw, rfl⟩ := h
    exact ⟨d, fw_ad w' w2, he, ih hw g, (fw_ad_as _ _ _).symm⟩
/-- the rest of a walk behind a vertex x of it -/
theorem fw_wk_suf {E : Nat → Nat → Nat × Nat → Prop} {a b : List Nat} {i x : Nat} {w : Nat × Nat} (h : fw_wk E i (a ++ x :: b) w) : ∃ w', fw_wk E x b w' ∧ fw_le w' w := by
  rw [show a ++ x :: b = (a ++ [x]) ++ b by simp] at h
  obtain ⟨w1, w2, _, h2, rfl⟩ := fw_wk_app h
  rw [fw_lst_1] at h2
  exact ⟨w2, h2, fw_le_r _ _⟩
/-- a walk up to a vertex x of it -/
theorem fw_wk_pre {E : Nat → Nat → Nat × Nat → Prop} {a b : List Nat} {i x : Nat} {w : Nat × Nat} (h : fw_wk E i (a ++ x :: b) w) : ∃ w', fw_wk E i (a ++ [x]) w' ∧ fw_le w' w := by
  rw [show a ++ x :: b = (a ++ [x]) ++ b by simp] at h
  obtain ⟨w1, w2, h1, _, rfl⟩ := fw_wk_app h
  exact ⟨w1, h1, fw_le_l _ _⟩
theorem fw_lst_suf (i x : Nat) (a b : List Nat) : fw_lst i (a ++ x :: b) = fw_lst x b := by
  rw [fw_lst_app]; rfl
/-- out of any walk a way without rings that weighs no more -/
theorem fw_sp {E : Nat → Nat → Nat × Nat → Prop} {j : Nat} {r : List Nat} : ∀ {i : Nat} {w : Nat × Nat}, fw_wk E i r w → fw_lst i r = j → ∃ r' w', (i :: r').Nodup ∧ fw_lst i r' = j ∧ (∀ v, v ∈ r' → v ∈ r) ∧ fw_wk E i r' w' ∧ fw_le w' w := by
  induction r with
  | nil => exact fun {i w} h hj => ⟨[], w, List.nodup_cons.mpr ⟨List.not_mem_nil, List.nodup_nil⟩, hj, fun v hv => hv, h, fw_le_rfl w⟩
  | cons v r ih =>
    intro i w h hj
    obtain ⟨d, w1, he, h1, rfl⟩ := h
    obtain ⟨r', w', nd, hl, hs, hk, hle⟩ := ih h1 hj
    by_cases hi : i ∈ v :: r'
    · obtain ⟨s, t, e⟩ := List.append_of_mem hi
      have ndt : (i :: t).Nodup := List.Nodup.sublist (List.sublist_append_right s (i :: t)) (e ▸ nd)
      cases s with
      | nil =>
        have e2 : v = i ∧ r' = t := List.cons.inj e
        obtain ⟨rfl, rfl⟩ := e2
        exact ⟨r', w', nd, hl, fun u hu => List.mem_cons_of_mem _ (hs u hu), hk, fw_le_tr hle (fw_le_r _ _)⟩
      | cons v' s' =>
        have e2 : v = v' ∧ r' = s' ++ i :: t := List.cons.inj e
        obtain ⟨rfl, rfl⟩ := e2
        obtain ⟨w2, h2, l2⟩ := fw_wk_suf hk
        refine ⟨t, w2, ndt, ?_, fun u hu => List.mem_cons_of_mem _ (hs u ?_), h2, fw_le_tr l2 (fw_le_tr hle (fw_le_r _ _))⟩
        · rw [← hl, fw_lst_suf]
        · exact List.mem_append_right _ (List.mem_cons_of_mem _ hu)
    · refine ⟨v :: r', fw_ad d w', List.nodup_cons.mpr ⟨hi, nd⟩, hl, ?_, ⟨d, w', he, hk, rfl⟩, fw_le_ad (fw_le_rfl d) hle⟩
      intro u hu
      rcases List.mem_cons.mp hu with z | z
      · rw [z]; exact List.mem_cons_self
      · exact List.mem_cons_of_mem _ (hs u z)
/-- a way without rings from i to j, whose inner vertices are below k, of the weight w -/
def fw_pt (E : Nat → Nat → Nat × Nat → Prop) (k i j : Nat) (w : Nat × Nat) : Prop :=
  ∃ r, (i :: r).Nodup ∧ fw_lst i r = j ∧ (∀ v, v ∈ r → v = j ∨ v < k) ∧ fw_wk E i r w
theorem fw_pt_mono {E : Nat → Nat → Nat × Nat → Prop} {k i j : Nat} {w : Nat × Nat} (h : fw_pt E k i j w) : fw_pt E (k + 1) i j w := by
  obtain ⟨r, h1, h2, h3, h4⟩ := h
  exact ⟨r, h1, h2, fun v hv => (h3 v hv).imp id (fun z => by omega), h4⟩
theorem fw_pt_ii {E : Nat → Nat → Nat × Nat → Prop} (k i : Nat) : fw_pt E k i i (0, 0) :=
  ⟨[], List.nodup_cons.mpr ⟨List.not_mem_nil, List.nodup_nil⟩, rfl, fun v hv => absurd hv List.not_mem_nil, rfl⟩
theorem fw_pt_i0 {E : Nat → Nat → Nat × Nat → Prop} {k i : Nat} {w : Nat × Nat} (h : fw_pt E k i i w) : w = (0, 0) := by
  obtain ⟨r, h1, h2, h3, h4⟩ := h
  rcases fw_lst_in i r with z | z
  · subst z
    exact h4
  · rw [h2] at z
    exact absurd z (List.nodup_cons.mp h1).1
theorem fw_pt_e {E : Nat → Nat → Nat × Nat → Prop} {k i j : Nat} {w : Nat × Nat} (h : E i j w) (hij : i ≠ j) : fw_pt E k i j w := by
  refine ⟨[j], ?_, rfl, fun v hv => Or.inl (List.mem_singleton.mp hv), ⟨w, (0, 0), h, rfl, (fw_ad_0r w).symm⟩⟩
  refine List.nodup_cons.mpr ⟨fun z => hij (List.mem_singleton.mp z), List.nodup_cons.mpr ⟨List.not_mem_nil, List.nodup_nil⟩⟩
theorem fw_pt_0 {E : Nat → Nat → Nat × Nat → Prop} {i j : Nat} {w : Nat × Nat} (h : fw_pt E 0 i j w) (hij : i ≠ j) : E i j w := by
  obtain ⟨r, h1, h2, h3, h4⟩ := h
  cases r with
  | nil => exact absurd h2 hij
  | cons v r =>
    have hv : v = j := (h3 v List.mem_cons_self).resolve_right (by omega)
    subst hv
    cases r with
    | nil =>
      obtain ⟨d, w', he, hw, rfl⟩ := h4
      have e : w' = (0, 0) := hw
      rw [e, fw_ad_0r]
      exact he
    | cons u r =>
      have hu : u = v := (h3 u (List.mem_cons_of_mem _ List.mem_cons_self)).resolve_right (by omega)
      have nd := (List.nodup_cons.mp (List.nodup_cons.mp h1).2).1
      rw [hu] at nd
      exact absurd List.mem_cons_self nd
theorem fw_mid_ne {a b : List Nat} {x v : Nat} (nd : (a ++ x :: b).Nodup) (ha : v ∈ a) : v ≠ x ∧ v ∉ b := by
  have h := (List.nodup_append.mp nd).2.2
  exact ⟨h v ha x List.mem_cons_self, fun z => h v ha v (List.mem_cons_of_mem _ z) rfl⟩
theorem fw_pt_sp {E : Nat → Nat → Nat × Nat → Prop} {k i j : Nat} {w : Nat × Nat} (h : fw_pt E (k + 1) i j w) :
    fw_pt E k i j w ∨ (i ≠ k ∧ j ≠ k ∧ i ≠ j ∧ ∃ w1 w2, fw_pt E k i k w1 ∧ fw_pt E k k j w2 ∧ w = fw_ad w1 w2) := by
  obtain ⟨r, h1, h2, h3, h4⟩ := h
  have ndi := List.nodup_cons.mp h1
  by_cases hk : k ∈ r ∧ k ≠ j
  · obtain ⟨hk, hkj⟩ := hk
    refine Or.inr ⟨fun z => ndi.1 (z ▸ hk), fun z => hkj z.symm, ?_, ?_⟩
    · intro z
      rcases fw_lst_in i r with y | y
      · rw [y] at hk
        exact absurd hk List.not_mem_nil
      · rw [h2, ← z] at y
        exact ndi.1 y
    · obtain ⟨a, b, rfl⟩ := List.append_of_mem hk
      have hl : fw_lst k b = j := by rw [← h2, fw_lst_suf]
      have hjb : j ∈ b := by
        rcases fw_lst_in k b with y | y
        · rw [y] at hl
          exact absurd hl hkj
        · rw [hl] at y
          exact y
      have ndk : (k :: b).Nodup := List.Nodup.sublist (List.sublist_append_right a (k :: b)) ndi.2
      have h4' := h4
      rw [show a ++ k :: b = (a ++ [k]) ++ b by simp] at h4'
      obtain ⟨w1, w2, g1, g2, rfl⟩ := fw_wk_app h4'
      rw [fw_lst_1] at g2
      refine ⟨w1, w2, ⟨a ++ [k], ?_, fw_lst_1 i k a, ?_, g1⟩, ⟨b, ndk, hl, ?_, g2⟩, rfl⟩
      · refine List.Nodup.sublist ?_ h1
        rw [show i :: (a ++ k :: b) = (i :: (a ++ [k])) ++ b by simp]
        exact List.sublist_append_left _ _
      · intro v hv
        rcases List.mem_append.mp hv with z | z
        · have := fw_mid_ne ndi.2 z
          rcases h3 v (List.mem_append_left _ z) with y | y
          · exact absurd (y ▸ hjb) this.2
          · exact Or.inr (by have := this.1; omega)
        · exact Or.inl (List.mem_singleton.mp z)
      · intro v hv
        rcases h3 v (List.mem_append_right _ (List.mem_cons_of_mem _ hv)) with y | y
        · exact Or.inl y
        · have : v ≠ k := fun z => (List.nodup_cons.mp ndk).1 (z ▸ hv)
          exact Or.inr (by omega)
  · refine Or.inl ⟨r, h1, h2, fun v hv => ?_, h4⟩
    rcases h3 v hv with y | y
    · exact Or.inl y
    · by_cases e : v = k
      · by_cases e2 : k = j
        · exact Or.inl (e.trans e2)
        · exact absurd ⟨e ▸ hv, e2⟩ hk
      · exact Or.inr (by omega)
theorem fw_pt_jn {E : Nat → Nat → Nat × Nat → Prop} {k i j : Nat} {w1 w2 : Nat × Nat} (h : fw_pt E k i k w1) (g : fw_pt E k k j w2) :
    fw_pt E (k + 1) i j (fw_ad w1 w2) ∨ ∃ w', fw_pt E k i j w' ∧ fw_le w' (fw_ad w1 w2) := by
  obtain ⟨r1, h1, h2, h3, h4⟩ := h
  obtain ⟨r2, g1, g2, g3, g4⟩ := g
  by_cases hx : ∃ x, x ∈ i :: r1 ∧ x ∈ r2
  · refine Or.inr ?_
    obtain ⟨x, x1, x2⟩ := hx
    have hxk : x ≠ k := fun z => (List.nodup_cons.mp g1).1 (z ▸ x2)
    obtain ⟨b1, b2, rfl⟩ := List.append_of_mem x2
    obtain ⟨w2', u2, l2⟩ := fw_wk_suf g4
    have hl : fw_lst x b2 = j := by rw [← g2, fw_lst_suf]
    have hb : ∀ v, v ∈ b2 → v = j ∨ v < k := fun v hv => g3 v (List.mem_append_right _ (List.mem_cons_of_mem _ hv))
    rcases List.mem_cons.mp x1 with z | z
    · subst z
      obtain ⟨r', w', n1, n2, n3, n4, n5⟩ := fw_sp u2 hl
      exact ⟨w', ⟨r', n1, n2, fun v hv => hb v (n3 v hv), n4⟩, fw_le_tr n5 (fw_le_tr l2 (fw_le_r _ _))⟩
    · obtain ⟨a1, a2, rfl⟩ := List.append_of_mem z
      obtain ⟨w1', u1, l1⟩ := fw_wk_pre h4
      have nd := (List.nodup_cons.mp h1).2
      have hka : k ∈ a2 := by
        have e : fw_lst x a2 = k := by rw [← h2, fw_lst_suf]
        rcases fw_lst_in x a2 with y | y
        · rw [y] at e
          exact absurd e hxk
        · rw [e] at y
          exact y
      have u3 : fw_wk E i ((a1 ++ [x]) ++ b2) (fw_ad w1' w2') := fw_wk_cat u1 (by rw [fw_lst_1]; exact u2)
      obtain ⟨r', w', n1, n2, n3, n4, n5⟩ := fw_sp u3 (j := j) (by rw [fw_lst_app, fw_lst_1]; exact hl)
      refine ⟨w', ⟨r', n1, n2, fun v hv => ?_, n4⟩, fw_le_tr n5 (fw_le_ad l1 l2)⟩
      rcases List.mem_append.mp (n3 v hv) with y | y
      · refine Or.inr ?_
        rcases List.mem_append.mp y with q | q
        · rcases h3 v (List.mem_append_left _ q) with e | e
          · exact absurd (e ▸ hka) (fw_mid_ne nd q).2
          · exact e
        · have e : v = x := List.mem_singleton.mp q
          rcases h3 x z with e2 | e2
          · exact absurd e2 hxk
          · omega
      · exact hb v y
  · refine Or.inl ⟨r1 ++ r2, ?_, ?_, ?_, fw_wk_cat h4 (h2.symm ▸ g4)⟩
    · rw [← List.cons_append]
      refine List.nodup_append.mpr ⟨h1, (List.nodup_cons.mp g1).2, fun a ha b hb e => hx ⟨a, ha, e ▸ hb⟩⟩
    · rw [fw_lst_app, h2, g2]
    · intro v hv
      rcases List.mem_append.mp hv with z | z
      · exact Or.inr (by rcases h3 v z with y | y <;> omega)
      · exact (g3 v z).imp id (fun y => by omega)
/-- the lines join places below 7 and add at most 3 -/
def fw_ok (E : Nat → Nat → Nat × Nat → Prop) : Prop := ∀ u v d, E u v d → u < 7 ∧ v < 7 ∧ d.1 ≤ 3 ∧ d.2 ≤ 3
theorem fw_wk_len {E : Nat → Nat → Nat × Nat → Prop} (ok : fw_ok E) {r : List Nat} : ∀ {i : Nat} {w : Nat × Nat}, fw_wk E i r w → w.1 ≤ 3 * r.length ∧ w.2 ≤ 3 * r.length ∧ (∀ v, v ∈ r → v < 7) ∧ (r ≠ [] → i < 7) := by
  induction r with
  | nil =>
    intro i w h
    have e : w = (0, 0) := h
    subst e
    exact ⟨Nat.zero_le _, Nat.zero_le _, fun v hv => absurd hv List.not_mem_nil, fun z => absurd rfl z⟩
  | cons v r ih =>
    intro i w h
    obtain ⟨d, w', he, hw, rfl⟩ := h
    obtain ⟨o1, o2, o3, o4⟩ := ok i v d he
    obtain ⟨q1, q2, q3, _⟩ := ih hw
    refine ⟨?_, ?_, fun u hu => ?_, fun _ => o1⟩
    · show d.1 + w'.1 ≤ 3 * (r.length + 1)
      omega
    · show d.2 + w'.2 ≤ 3 * (r.length + 1)
      omega
    · rcases List.mem_cons.mp hu with z | z
      · omega
      · exact q3 u z
theorem fw_nd_len {l : List Nat} {n : Nat} (h : l.Nodup) (hl : ∀ v, v ∈ l → v < n) : l.length ≤ n := by
  have := List.Nodup.length_le_of_subset (l₂ := List.range n) h (fun v hv => List.mem_range.mpr (hl v hv))
  rw [List.length_range] at this
  exact this
theorem fw_pt_bd {E : Nat → Nat → Nat × Nat → Prop} (ok : fw_ok E) {k i j : Nat} {w : Nat × Nat} (h : fw_pt E k i j w) : w.1 ≤ 18 ∧ w.2 ≤ 18 := by
  obtain ⟨r, h1, h2, h3, h4⟩ := h
  obtain ⟨q1, q2, q3, q4⟩ := fw_wk_len ok h4
  by_cases e : r = []
  · subst e
    have : ([] : List Nat).length = 0 := rfl
    omega
  · have hi := q4 e
    have := fw_nd_len (n := 7) h1 (fun v hv => by
      rcases List.mem_cons.mp hv with z | z
      · omega
      · exact q3 v z)
    rw [List.length_cons] at this
    omega
/-- a line ahead of a way: some way weighs no more than both -/
theorem fw_pt_cs {E : Nat → Nat → Nat × Nat → Prop} {u v m : Nat} {d w : Nat × Nat} (he : E u v d) (hv : v < 7) (h : fw_pt E 7 v m w) : ∃ w', fw_pt E 7 u m w' ∧ fw_le w' (fw_ad d w) := by
  obtain ⟨r, h1, h2, h3, h4⟩ := h
  have h5 : fw_wk E u (v :: r) (fw_ad d w) := ⟨d, w, he, h4, rfl⟩
  obtain ⟨r', w', n1, n2, n3, n4, n5⟩ := fw_sp h5 (j := m) h2
  refine ⟨w', ⟨r', n1, n2, fun x hx => ?_, n4⟩, n5⟩
  rcases List.mem_cons.mp (n3 x hx) with z | z
  · exact Or.inr (by omega)
  · exact h3 x z
/-- the list is right for the places i, j when ways over inner places below k are looked at -/
def fw_V (E : Nat → Nat → Nat × Nat → Prop) (k i j : Nat) (l : List (Nat × Nat)) : Prop :=
  l.Pairwise (fun x y => x.1 < y.1) ∧ (∀ s, s ∈ l → fw_pt E k i j s) ∧ (∀ w, fw_pt E k i j w → ∃ s, s ∈ l ∧ fw_le s w)
/-- a row that joins nothing at k stays right -/
theorem fw_V_skip {E : Nat → Nat → Nat × Nat → Prop} {k i j : Nat} {l : List (Nat × Nat)} (h : fw_V E k i j l) (hs : i = k ∨ j = k ∨ i = j) : fw_V E (k + 1) i j l := by
  refine ⟨h.1, fun s hs => fw_pt_mono (h.2.1 s hs), fun w hw => ?_⟩
  rcases fw_pt_sp hw with z | z
  · exact h.2.2 w z
  · obtain ⟨z1, z2, z3, _⟩ := z
    rcases hs with y | y | y
    · exact absurd y z1
    · exact absurd y z2
    · exact absurd y z3
theorem fw_V_diag {E : Nat → Nat → Nat × Nat → Prop} {k i : Nat} {l : List (Nat × Nat)} (h : fw_V E k i i l) : l = [(0, 0)] := by
  obtain ⟨h1, h2, h3⟩ := h
  obtain ⟨s, hs, _⟩ := h3 (0, 0) (fw_pt_ii k i)
  cases l with
  | nil => exact absurd hs List.not_mem_nil
  | cons a r =>
    have ea := fw_pt_i0 (h2 a List.mem_cons_self)
    cases r with
    | nil => rw [ea]
    | cons b r =>
      have eb := fw_pt_i0 (h2 b (List.mem_cons_of_mem _ List.mem_cons_self))
      have := (List.pairwise_cons.mp h1).1 b List.mem_cons_self
      rw [ea, eb] at this
      exact absurd this (Nat.lt_irrefl _)
theorem fw_V_tri {E : Nat → Nat → Nat × Nat → Prop} {u v m : Nat} {d s : Nat × Nat} {l l' : List (Nat × Nat)} (he : E u v d) (hv : v < 7) (h : fw_V E 7 v m l) (h' : fw_V E 7 u m l') (hs : s ∈ l) : ∃ s', s' ∈ l' ∧ fw_le s' (fw_ad d s) := by
  obtain ⟨w', g1, g2⟩ := fw_pt_cs he hv (h.2.1 s hs)
  obtain ⟨s', g3, g4⟩ := h'.2.2 w' g1
  exact ⟨s', g3, fw_le_tr g4 g2⟩
end
section
/-! what addSum does to a list -/
def fw_gt (s : Nat × Nat) : Bool → List (Nat × Nat) → List (Nat × Nat)
  | pl, [] => if pl = true then [] else [s]
  | pl, e :: r => (if e.1 ≤ s.1 ∨ pl = true then [] else [s]) ++ ((if s.1 ≤ e.1 ∧ s.2 ≤ e.2 then [] else [e]) ++ fw_gt s (if e.1 ≤ s.1 then pl else true) r)
theorem fw_gt_len (s : Nat × Nat) (l : List (Nat × Nat)) : ∀ pl, (fw_gt s pl l).length ≤ l.length + (if pl = true then 0 else 1) := by
  induction l with
  | nil =>
    intro pl
    cases pl
    · exact Nat.le_refl _
    · exact Nat.le_refl _
  | cons e r ih =>
    intro pl
    show ((if e.1 ≤ s.1 ∨ pl = true then [] else [s]) ++ ((if s.1 ≤ e.1 ∧ s.2 ≤ e.2 then [] else [e]) ++ fw_gt s (if e.1 ≤ s.1 then pl else true) r)).length ≤ r.length + 1 + (if pl = true then 0 else 1)
    have h2 : (if s.1 ≤ e.1 ∧ s.2 ≤ e.2 then [] else [e]).length ≤ 1 := by
      split
      · exact Nat.zero_le _
      · exact Nat.le_refl _
    rw [List.length_append, List.length_append]
    by_cases h : e.1 ≤ s.1
    · have h1 : (if e.1 ≤ s.1 ∨ pl = true then ([] : List (Nat × Nat)) else [s]).length = 0 := by rw [if_pos (Or.inl h)]; rfl
      have := ih pl
      rw [if_pos h]
      omega
    · have := ih true
      rw [if_neg h]
      rw [if_pos rfl] at this
      cases pl
      · have h1 : (if e.1 ≤ s.1 ∨ false = true then ([] : List (Nat × Nat)) else [s]).length = 1 := by rw [if_neg (fun z => z.elim h (fun y => Bool.noConfusion y))]; rfl
        have h3 : (if false = true then 0 else 1) = 1 := rfl
        omega
      · have h1 : (if e.1 ≤ s.1 ∨ true = true then ([] : List (Nat × Nat)) else [s]).length = 0 := by rw [if_pos (Or.inr rfl)]; rfl
        have h3 : (if true = true then 0 else 1) = 0 := rfl
        omega
theorem fw_gt_mem (s x : Nat × Nat) (l : List (Nat × Nat)) : ∀ pl, x ∈ fw_gt s pl l ↔ (x = s ∧ pl = false ) ∨ (x ∈ l ∧ ¬ (s.1 ≤ x.1 ∧ s.2 ≤ x.2)) := by
  induction l with
  | nil =>
    intro pl
    cases pl
    · simp [fw_gt]
    · simp [fw_gt]
  | cons e r ih =>
    intro pl
    show x ∈ ((if e.1 ≤ s.1 ∨ pl = true then [] else [s]) ++ ((if s.1 ≤ e.1 ∧ s.2 ≤ e.2 then [] else [e]) ++ fw_gt s (if e.1 ≤ s.1 then pl else true) r)) ↔ _
    rw [List.mem_append, List.mem_append, List.mem_cons]
    have h2 : x ∈ (if s.1 ≤ e.1 ∧ s.2 ≤ e.2 then [] else [e]) ↔ x = e ∧ ¬ (s.1 ≤ x.1 ∧ s.2 ≤ x.2) := by
      split
      · rename_i h
        exact ⟨fun z => absurd z List.not_mem_nil, fun z => absurd (z.1 ▸ h) z.2⟩
      · rename_i h
        exact ⟨fun z => ⟨List.mem_singleton.mp z, (List.mem_singleton.mp z) ▸ h⟩, fun z => List.mem_singleton.mpr z.1⟩
    have h1 : x ∈ (if e.1 ≤ s.1 ∨ pl = true then [] else [s]) ↔ x = s ∧ ¬ e.1 ≤ s.1 ∧ pl = false := by
      split
      · rename_i h
        refine ⟨fun z => absurd z List.not_mem_nil, fun z => ?_⟩
        rcases h with y | y
        · exact absurd y z.2.1
        · rw [z.2.2] at y
          exact Bool.noConfusion y
      · rename_i h
        refine ⟨fun z => ⟨List.mem_singleton.mp z, fun y => h (Or.inl y), ?_⟩, fun z => List.mem_singleton.mpr z.1⟩
        cases pl
        · rfl
        · exact absurd (Or.inr rfl) h
    rw [h1, h2, ih]
    by_cases h : e.1 ≤ s.1
    · rw [if_pos h]
      constructor
      · rintro (⟨_, z, _⟩ | z | z | z)
        · exact absurd h z
        · exact Or.inr ⟨Or.inl z.1, z.2⟩
        · exact Or.inl z
        · exact Or.inr ⟨Or.inr z.1, z.2⟩
      · rintro (z | ⟨z | z, y⟩)
        · exact Or.inr (Or.inr (Or.inl z))
        · exact Or.inr (Or.inl ⟨z, y⟩)
        · exact Or.inr (Or.inr (Or.inr ⟨z, y⟩))
    · rw [if_neg h]
      constructor
      · rintro (⟨z, _, y⟩ | z | z | z)
        · exact Or.inl ⟨z, y⟩
        · exact Or.inr ⟨Or.inl z.1, z.2⟩
        · exact absurd z.2 (fun y => Bool.noConfusion y)
        · exact Or.inr ⟨Or.inr z.1, z.2⟩
      · rintro (z | ⟨z | z, y⟩)
        · exact Or.inl ⟨z.1, h, z.2⟩
        · exact Or.inr (Or.inl ⟨z, y⟩)
        · exact Or.inr (Or.inr (Or.inr ⟨z, y⟩))
theorem fw_gt_t (s : Nat × Nat) (l : List (Nat × Nat)) : (fw_gt s true l).Sublist l := by
  induction l with
  | nil => exact List.Sublist.refl _
  | cons e r ih =>
    show ((if e.1 ≤ s.1 ∨ true = true then [] else [s]) ++ ((if s.1 ≤ e.1 ∧ s.2 ≤ e.2 then [] else [e]) ++ fw_gt s (if e.1 ≤ s.1 then true else true) r)).Sublist (e :: r)
    rw [if_pos (Or.inr rfl), List.nil_append, show (if e.1 ≤ s.1 then true else true) = true by split <;> rfl]
    split
    · exact List.Sublist.cons _ ih
    · exact List.Sublist.cons_cons _ ih
theorem fw_gt_srt (s : Nat × Nat) (l : List (Nat × Nat)) (h : l.Pairwise (fun x y => x.1 < y.1)) (hn : ∀ e, e ∈ l → ¬ fw_le e s) : (fw_gt s false l).Pairwise (fun x y => x.1 < y.1) := by
  induction l with
  | nil => exact List.pairwise_singleton _ _
  | cons e r ih =>
    have h' := List.pairwise_cons.mp h
    have ihr := ih h'.2 (fun x hx => hn x (List.mem_cons_of_mem _ hx))
    have he : ¬ (e.1 ≤ s.1 ∧ e.2 ≤ s.2) := hn e List.mem_cons_self
    show ((if e.1 ≤ s.1 ∨ false = true then [] else [s]) ++ ((if s.1 ≤ e.1 ∧ s.2 ≤ e.2 then [] else [e]) ++ fw_gt s (if e.1 ≤ s.1 then false else true) r)).Pairwise _
    by_cases hc : e.1 ≤ s.1
    · rw [if_pos (Or.inl hc), if_pos hc, List.nil_append]
      split
      · exact ihr
      · rename_i hb
        refine List.pairwise_cons.mpr ⟨fun x hx => ?_, ihr⟩
        rcases (fw_gt_mem s x r false).mp hx with z | z
        · rw [z.1]
          omega
        · exact h'.1 x z.1
    · rw [if_neg (fun z => z.elim hc (fun y => Bool.noConfusion y)), if_neg hc]
      have key : ((if s.1 ≤ e.1 ∧ s.2 ≤ e.2 then [] else [e]) ++ fw_gt s true r).Sublist (e :: r) := by
        split
        · exact List.Sublist.cons _ (fw_gt_t s r)
        · exact List.Sublist.cons_cons _ (fw_gt_t s r)
      refine List.pairwise_cons.mpr ⟨fun x hx => ?_, List.Pairwise.sublist key h⟩
      rcases List.mem_cons.mp (key.subset hx) with z | z
      · rw [z]
        omega
      · have := h'.1 x z
        omega
/-- l' is l after addSum of s -/
def fw_AD (l : List (Nat × Nat)) (s : Nat × Nat) (l' : List (Nat × Nat)) : Prop :=
  ((∃ e, e ∈ l ∧ fw_le e s) ∧ l' = l) ∨ ((∀ e, e ∈ l → ¬ fw_le e s) ∧ l' = fw_gt s false l)
theorem fw_AD_srt {l l' : List (Nat × Nat)} {s : Nat × Nat} (a : fw_AD l s l') (h : l.Pairwise (fun x y => x.1 < y.1)) : l'.Pairwise (fun x y => x.1 < y.1) := by
  rcases a with ⟨_, rfl⟩ | ⟨hn, rfl⟩
  · exact h
  · exact fw_gt_srt s l h hn
theorem fw_AD_mem {l l' : List (Nat × Nat)} {s x : Nat × Nat} (a : fw_AD l s l') (h : x ∈ l') : x ∈ l ∨ (x = s ∧ ∀ e, e ∈ l → ¬ fw_le e s) := by
  rcases a with ⟨_, rfl⟩ | ⟨hn, rfl⟩
  · exact Or.inl h
  · rcases (fw_gt_mem s x l false).mp h with z | z
    · exact Or.inr ⟨z.1, hn⟩
    · exact Or.inl z.1
theorem fw_AD_new {l l' : List (Nat × Nat)} {s : Nat × Nat} (a : fw_AD l s l') : ∃ e, e ∈ l' ∧ fw_le e s := by
  rcases a with ⟨h, rfl⟩ | ⟨hn, rfl⟩
  · exact h
  · exact ⟨s, (fw_gt_mem s s l false).mpr (Or.inl ⟨rfl, rfl⟩), fw_le_rfl s⟩
theorem fw_AD_old {l l' : List (Nat × Nat)} {s w : Nat × Nat} (a : fw_AD l s l') (h : ∃ e, e ∈ l ∧ fw_le e w) : ∃ e, e ∈ l' ∧ fw_le e w := by
  rcases a with ⟨_, rfl⟩ | ⟨hn, rfl⟩
  · exact h
  · obtain ⟨e, h1, h2⟩ := h
    by_cases hb : s.1 ≤ e.1 ∧ s.2 ≤ e.2
    · exact ⟨s, (fw_gt_mem s s l false).mpr (Or.inl ⟨rfl, rfl⟩), fw_le_tr hb h2⟩
    · exact ⟨e, (fw_gt_mem s e l false).mpr (Or.inr ⟨h1, hb⟩), h2⟩
theorem fw_srt_len {l : List (Nat × Nat)} : ∀ {b n : Nat}, l.Pairwise (fun x y => x.1 < y.1) → (∀ x, x ∈ l → b ≤ x.1 ∧ x.1 < n) → l.length ≤ n - b := by
  induction l with
  | nil => exact fun _ _ => Nat.zero_le _
  | cons a r ih =>
    intro b n h hb
    have h' := List.pairwise_cons.mp h
    have ha := hb a List.mem_cons_self
    have := ih (b := a.1 + 1) (n := n) h'.2 (fun x hx => ⟨h'.1 x hx, (hb x (List.mem_cons_of_mem _ hx)).2⟩)
    rw [List.length_cons]
    omega
theorem fw_len19 {l : List (Nat × Nat)} (h : l.Pairwise (fun x y => x.1 < y.1)) (hb : ∀ x, x ∈ l → x.1 ≤ 18 ∧ x.2 ≤ 18) : l.length ≤ 19 :=
  fw_srt_len (b := 0) (n := 19) h (fun x hx => ⟨Nat.zero_le _, by have := (hb x hx).1; omega⟩)
/-- lists by their places -/
def fw_g (l : List (Nat × Nat)) (k : Nat) : Nat × Nat := l.getD k (0, 0)
theorem fw_g_drop {l : List (Nat × Nat)} {k : Nat} (h : k < l.length) : l.drop k = fw_g l k :: l.drop (k + 1) := by
  rw [List.drop_eq_getElem_cons h]
  simp [fw_g, List.getD_eq_getElem?_getD, h]
theorem fw_g_mem {l : List (Nat × Nat)} {k : Nat} (h : k < l.length) : fw_g l k ∈ l := by
  have : fw_g l k = l[k] := by simp [fw_g, List.getD_eq_getElem?_getD, h]
  rw [this]
  exact List.getElem_mem h
theorem fw_g_of {l : List (Nat × Nat)} {x : Nat × Nat} (h : x ∈ l) : ∃ k, k < l.length ∧ fw_g l k = x := by
  obtain ⟨k, hk, e⟩ := List.mem_iff_getElem.mp h
  exact ⟨k, hk, by rw [← e]; simp [fw_g, List.getD_eq_getElem?_getD, hk]⟩
theorem fw_g_last (g : List (Nat × Nat)) (s : Nat × Nat) : fw_g (g ++ [s]) g.length = s := by
  simp [fw_g, List.getD_eq_getElem?_getD]
theorem fw_g_left {g : List (Nat × Nat)} {k : Nat} (h : k < g.length) (r : List (Nat × Nat)) : fw_g (g ++ r) k = fw_g g k := by
  simp [fw_g, List.getD_eq_getElem?_getD, List.getElem?_append_left h]
theorem fw_g_take {l : List (Nat × Nat)} {k : Nat} (h : k < l.length) : l.take (k + 1) = l.take k ++ [fw_g l k] := by
  rw [List.take_succ_eq_append_getElem h]
  simp [fw_g, List.getD_eq_getElem?_getD, h]
/-! a join at a middle place -/
/-- row i j while place k is joined in: l0 was right for k, these sums of pairs stand already -/
def fw_J (E : Nat → Nat → Nat × Nat → Prop) (k i j : Nat) (l : List (Nat × Nat)) : Prop :=
  l.Pairwise (fun x y => x.1 < y.1) ∧ (∀ s, s ∈ l → fw_pt E (k + 1) i j s) ∧ (∀ w, fw_pt E k i j w → ∃ s, s ∈ l ∧ fw_le s w)
theorem fw_J_0 {E : Nat → Nat → Nat × Nat → Prop} {k i j : Nat} {l : List (Nat × Nat)} (h : fw_V E k i j l) : fw_J E k i j l :=
  ⟨h.1, fun s hs => fw_pt_mono (h.2.1 s hs), h.2.2⟩
theorem fw_J_bd {E : Nat → Nat → Nat × Nat → Prop} (ok : fw_ok E) {k i j : Nat} {l : List (Nat × Nat)} {s1 s2 : Nat × Nat} (h : fw_J E k i j l) (h1 : fw_pt E k i k s1) (h2 : fw_pt E k k j s2) (hn : ∀ e, e ∈ l → ¬ fw_le e (fw_ad s1 s2)) : fw_pt E (k + 1) i j (fw_ad s1 s2) := by
  rcases fw_pt_jn h1 h2 with z | ⟨w', z1, z2⟩
  · exact z
  · obtain ⟨s, g1, g2⟩ := h.2.2 w' z1
    exact absurd (fw_le_tr g2 z2) (hn s g1)
theorem fw_J_add {E : Nat → Nat → Nat × Nat → Prop} (ok : fw_ok E) {k i j : Nat} {l l' : List (Nat × Nat)} {s1 s2 : Nat × Nat} (h : fw_J E k i j l) (h1 : fw_pt E k i k s1) (h2 : fw_pt E k k j s2) (a : fw_AD l (fw_ad s1 s2) l') : fw_J E k i j l' := by
  refine ⟨fw_AD_srt a h.1, fun s hs => ?_, fun w hw => fw_AD_old a (h.2.2 w hw)⟩
  rcases fw_AD_mem a hs with z | ⟨z, y⟩
  · exact h.2.1 s z
  · rw [z]
    exact fw_J_bd ok h h1 h2 y
theorem fw_J_end {E : Nat → Nat → Nat × Nat → Prop} {k i j : Nat} {l l1 l2 : List (Nat × Nat)} (h : fw_J E k i j l) (v1 : fw_V E k i k l1) (v2 : fw_V E k k j l2) (hp : ∀ s1 s2, s1 ∈ l1 → s2 ∈ l2 → ∃ e, e ∈ l ∧ fw_le e (fw_ad s1 s2)) : fw_V E (k + 1) i j l := by
  refine ⟨h.1, h.2.1, fun w hw => ?_⟩
  rcases fw_pt_sp hw with z | ⟨_, _, _, w1, w2, z1, z2, rfl⟩
  · exact h.2.2 w z
  · obtain ⟨s1, a1, b1⟩ := v1.2.2 w1 z1
    obtain ⟨s2, a2, b2⟩ := v2.2.2 w2 z2
    obtain ⟨e, c1, c2⟩ := hp s1 s2 a1 a2
    exact ⟨e, c1, fw_le_tr c2 (fw_le_ad b1 b2)⟩
end
section
/-! addSum -/
/-- a sum as the class keeps it -/
def fw_c (s : Nat × Nat) : Int32 := nI (64 * s.1 + s.2)
theorem fw_c_hi {s : Nat × Nat} (h1 : s.1 < 64) (h2 : s.2 < 64) : fw_c s >>> ((6 : Int32) &&& 31) = nI s.1 := by
  unfold fw_c
  rw [pk_shrN (n := 64 * s.1 + s.2) (by omega) ((6 : Int32) &&& 31) 6 (by decide)]
  congr 1
  omega
theorem fw_c_lo {s : Nat × Nat} (h1 : s.1 < 64) (h2 : s.2 < 64) : fw_c s &&& 63 = nI s.2 := by
  unfold fw_c
  rw [pk_andN (n := 64 * s.1 + s.2) (by omega) (m := 63) 6 (by decide)]
  congr 1
  omega
def fw_fl (b : Bool) : Int32 := if b = true then 1 else 0
/-- the gathered list -/
def fw_9 (a : Nat → Int32) (g : List (Nat × Nat)) : Prop := ∀ k, k < g.length → a k = fw_c (fw_g g k)
theorem fw_9_add {a : Nat → Int32} {g : List (Nat × Nat)} (s : Nat × Nat) (h : fw_9 a g) : fw_9 (upd a g.length (fw_c s)) (g ++ [s]) := by
  intro k hk
  rw [List.length_append] at hk
  have hk' : k < g.length + 1 := hk
  by_cases e : k = g.length
  · rw [e, pk_us, fw_g_last]
  · rw [pk_un e, fw_g_left (by omega)]
    exact h k (by omega)
theorem fw_as109 {post : St1 → Prop} {J16 : Int32 → Int32 → Int32 → (Nat → Int32) → (Nat → Int32) → (Nat → Int32) → (Nat → Int32) → (Nat → Int32) → (Nat → Int32) → (Nat → Int32) → (Nat → Int32) → (Nat → Int32) → (Nat → Int32) → Prop} {x1 x3 x4 fl ft : Int32} {a1 a2 a3 a4 a5 a6 a7 a8 a9 a10 : Nat → Int32} {i : Nat} {e s : Nat × Nat} {g : List (Nat × Nat)}
    (hi : i < 931) (hg : g.length < 40) (hE : a8 i = fw_c e) (he1 : e.1 < 64) (he2 : e.2 < 64) (hs1 : s.1 < 64) (hs2 : s.2 < 64) (h9 : fw_9 a9 g)
    (HJ : ∀ a9', fw_9 a9' (g ++ (if s.1 ≤ e.1 ∧ s.2 ≤ e.2 then [] else [e])) → J16 x4 (nI (i + 1)) (nI (g ++ (if s.1 ≤ e.1 ∧ s.2 ≤ e.2 then [] else [e])).length) a1 a2 a3 a4 a5 a6 a7 a8 a9' a10) :
    wX_addSum_109 post J16 x1 (fw_c s) x3 x4 (nI i) fl ft (nI g.length) a1 a2 a3 a4 a5 a6 a7 a8 a9 a10 := by
  unfold wX_addSum_109 wX_addSum_147 wX_addSum_148
  rw [nI_clamp (show i < 2 ^ 31 by omega), hE, fw_c_hi he1 he2, fw_c_lo he1 he2, fw_c_hi hs1 hs2, fw_c_lo hs1 hs2, nI_clamp (show g.length < 2 ^ 31 by omega)]
  have K0 : ¬ (s.1 ≤ e.1 ∧ s.2 ≤ e.2) → J16 x4 (nI (i + 1)) (nI (g.length + 1)) a1 a2 a3 a4 a5 a6 a7 a8 (upd a9 g.length (fw_c e)) a10 := by
    intro hc
    have q := HJ (upd a9 g.length (fw_c e))
    rw [if_neg hc] at q
    have q2 := q (fw_9_add e h9)
    rw [List.length_append] at q2
    exact q2
  have K1 : (s.1 ≤ e.1 ∧ s.2 ≤ e.2) → J16 x4 (nI (i + 1)) (nI g.length) a1 a2 a3 a4 a5 a6 a7 a8 a9 a10 := by
    intro hc
    have q := HJ a9
    rw [if_pos hc, List.append_nil] at q
    exact q h9
  refine ⟨pk_in i 931 hi, pk_lt e.1 s.1 (fun z => ?_) (fun z => ⟨pk_in i 931 hi, pk_lt e.2 s.2 (fun y => ?_) (fun y => ?_)⟩)⟩
  · exact br_t rfl ⟨pk_in i 931 hi, pk_in g.length 40 hg, nm_e (nm_r (nI_1 _) (nm_r (nI_1 i) (K0 (by omega))))⟩
  · exact br_t rfl ⟨pk_in i 931 hi, pk_in g.length 40 hg, nm_e (nm_r (nI_1 _) (nm_r (nI_1 i) (K0 (by omega))))⟩
  · exact br_f (by decide) (nm_r (nI_1 i) (K1 ⟨z, y⟩))
theorem fw_as76 {post : St1 → Prop} {J16 : Int32 → Int32 → Int32 → (Nat → Int32) → (Nat → Int32) → (Nat → Int32) → (Nat → Int32) → (Nat → Int32) → (Nat → Int32) → (Nat → Int32) → (Nat → Int32) → (Nat → Int32) → (Nat → Int32) → Prop} {x1 x3 x6 fl ft : Int32} {a1 a2 a3 a4 a5 a6 a7 a8 a9 a10 : Nat → Int32} {i : Nat} {e s : Nat × Nat} {g : List (Nat × Nat)} (pl : Bool)
    (h6 : x6 = if e.1 ≤ s.1 then 1 else 0)
    (hi : i < 931) (hg : g.length + 1 < 40) (hE : a8 i = fw_c e) (he1 : e.1 < 64) (he2 : e.2 < 64) (hs1 : s.1 < 64) (hs2 : s.2 < 64) (h9 : fw_9 a9 g)
    (HJ : ∀ a9', fw_9 a9' (g ++ ((if e.1 ≤ s.1 ∨ pl = true then [] else [s]) ++ (if s.1 ≤ e.1 ∧ s.2 ≤ e.2 then [] else [e]))) → J16 (fw_fl (if e.1 ≤ s.1 then pl else true)) (nI (i + 1)) (nI (g ++ ((if e.1 ≤ s.1 ∨ pl = true then [] else [s]) ++ (if s.1 ≤ e.1 ∧ s.2 ≤ e.2 then [] else [e]))).length) a1 a2 a3 a4 a5 a6 a7 a8 a9' a10) :
    wX_addSum_76 post J16 x1 (fw_c s) x3 (fw_fl pl) (nI i) x6 fl ft (nI g.length) a1 a2 a3 a4 a5 a6 a7 a8 a9 a10 := by
  unfold wX_addSum_76
  by_cases hb : e.1 ≤ s.1
  · rw [if_pos hb] at h6
    rw [h6]
    refine br_f (by decide) (fw_as109 hi (by omega) hE he1 he2 hs1 hs2 h9 (fun a9' q => ?_))
    have t := HJ a9'
    rw [if_pos (Or.inl hb), List.nil_append, if_pos hb] at t
    exact t q
  · rw [if_neg hb] at h6
    rw [h6]
    refine br_t rfl ?_
    cases pl
    · refine br_t rfl ⟨pk_in g.length 40 (by omega), nm_e (nm_r (nI_1 _) ?_)⟩
      rw [nI_clamp (show g.length < 2 ^ 31 by omega)]
      have t := HJ
      rw [if_neg (fun z => z.elim hb (fun y => Bool.noConfusion y)), if_neg hb, ← List.append_assoc] at t
      have q := fw_9_add s h9
      have k := fw_as109 (post := post) (J16 := J16) (x1 := x1) (x3 := x3) (x4 := 1) (fl := fl) (ft := ft) (g := g ++ [s]) hi (by rw [List.length_append]; exact hg) hE he1 he2 hs1 hs2 q (fun a9' q => t a9' q)
      rw [List.length_append] at k
      exact k
    · refine br_f (by decide) (fw_as109 hi (by omega) hE he1 he2 hs1 hs2 h9 (fun a9' q => ?_))
      have t := HJ a9'
      rw [if_pos (Or.inr rfl), List.nil_append, if_neg hb] at t
      exact t q
theorem fw_as51 {post : St1 → Prop} {J16 : Int32 → Int32 → Int32 → (Nat → Int32) → (Nat → Int32) → (Nat → Int32) → (Nat → Int32) → (Nat → Int32) → (Nat → Int32) → (Nat → Int32) → (Nat → Int32) → (Nat → Int32) → (Nat → Int32) → Prop} {x1 x3 fl ft : Int32} {a1 a2 a3 a4 a5 a6 a7 a8 a9 a10 : Nat → Int32} {i : Nat} {e s : Nat × Nat} {g : List (Nat × Nat)} (pl : Bool)
    (hi : i < 931) (hg : g.length + 1 < 40) (hE : a8 i = fw_c e) (he1 : e.1 < 64) (he2 : e.2 < 64) (hs1 : s.1 < 64) (hs2 : s.2 < 64) (h9 : fw_9 a9 g)
    (HP : fw_le e s → post (fl, ft, nI g.length, a1, a2, a3, a4, a5, a6, a7, a8, a9, a10))
    (HJ : ¬ fw_le e s → ∀ a9', fw_9 a9' (g ++ ((if e.1 ≤ s.1 ∨ pl = true then [] else [s]) ++ (if s.1 ≤ e.1 ∧ s.2 ≤ e.2 then [] else [e]))) → J16 (fw_fl (if e.1 ≤ s.1 then pl else true)) (nI (i + 1)) (nI (g ++ ((if e.1 ≤ s.1 ∨ pl = true then [] else [s]) ++ (if s.1 ≤ e.1 ∧ s.2 ≤ e.2 then [] else [e]))).length) a1 a2 a3 a4 a5 a6 a7 a8 a9' a10) :
    ((fw_c s >>> ((6 : Int32) &&& 31)) < ((a8 (nI i).toNatClampNeg) >>> ((6 : Int32) &&& 31)) → (wX_addSum_51 post J16 x1 (fw_c s) x3 (fw_fl pl) (nI i) 0 fl ft (nI g.length) a1 a2 a3 a4 a5 a6 a7 a8 a9 a10)) ∧ (¬ (fw_c s >>> ((6 : Int32) &&& 31)) < ((a8 (nI i).toNatClampNeg) >>> ((6 : Int32) &&& 31)) → (wX_addSum_51 post J16 x1 (fw_c s) x3 (fw_fl pl) (nI i) 1 fl ft (nI g.length) a1 a2 a3 a4 a5 a6 a7 a8 a9 a10)) := by
  rw [nI_clamp (show i < 2 ^ 31 by omega), hE, fw_c_hi he1 he2, fw_c_hi hs1 hs2]
  refine pk_lt s.1 e.1 (fun z => ?_) (fun z => ?_)
  · unfold wX_addSum_51
    refine br_t rfl (fw_as76 pl (by rw [if_neg (by omega)]) hi hg hE he1 he2 hs1 hs2 h9 (HJ (fun y => absurd y.1 (by omega))))
  · unfold wX_addSum_51
    rw [nI_clamp (show i < 2 ^ 31 by omega), hE, fw_c_lo he1 he2, fw_c_lo hs1 hs2]
    refine br_f (by decide) ⟨pk_in i 931 hi, pk_lt s.2 e.2 (fun y => ?_) (fun y => HP ⟨z, y⟩)⟩
    exact fw_as76 pl (by rw [if_pos z]) hi hg hE he1 he2 hs1 hs2 h9 (HJ (fun q => absurd q.2 (by omega)))
/-- the rows of least sums: which list stands in which row -/
def fw_R (R : Nat → List (Nat × Nat)) (a7 a8 : Nat → Int32) : Prop :=
  ∀ r, r < 49 → a7 r = nI (R r).length ∧ (R r).length ≤ 19 ∧ (∀ k, k < (R r).length → a8 (19 * r + k) = fw_c (fw_g (R r) k)) ∧ (∀ e, e ∈ R r → e.1 ≤ 18 ∧ e.2 ≤ 18)
def fw_up (R : Nat → List (Nat × Nat)) (r : Nat) (l : List (Nat × Nat)) : Nat → List (Nat × Nat) := fun j => if j = r then l else R j
theorem fw_up_s (R : Nat → List (Nat × Nat)) (r : Nat) (l : List (Nat × Nat)) : fw_up R r l r = l := if_pos rfl
theorem fw_up_n (R : Nat → List (Nat × Nat)) {r j : Nat} (l : List (Nat × Nat)) (h : j ≠ r) : fw_up R r l j = R j := if_neg h
theorem fw_up_id (R : Nat → List (Nat × Nat)) (r : Nat) : fw_up R r (R r) = R := by
  funext j
  by_cases e : j = r
  · rw [e, fw_up_s]
  · rw [fw_up_n R _ e]
/-- the copy back -/
theorem fw_as215 {post : St1 → Prop} {fl ft : Int32} {a1 a2 a3 a4 a5 a6 a7 a8 a9 a10 : Nat → Int32} {R : Nat → List (Nat × Nat)} {r : Nat} {g : List (Nat × Nat)} (hR : fw_R R a7 a8) (hr : r < 49) (hg : g.length ≤ 19) (h9 : fw_9 a9 g) (hb : ∀ e, e ∈ g → e.1 ≤ 18 ∧ e.2 ≤ 18)
    (H : ∀ a7' a8', fw_R (fw_up R r g) a7' a8' → post (fl, ft, nI g.length, a1, a2, a3, a4, a5, a6, a7', a8', a9, a10)) :
    ∃ n, wX_addSum_215 post (nI r) (nI (19 * r)) fl ft (nI g.length) n 0 a1 a2 a3 a4 a5 a6 a7 a8 a9 a10 := by
  refine pk_loop (fun n i s => wX_addSum_215 post (nI r) (nI (19 * r)) fl ft (nI g.length) n (nI i) a1 a2 a3 a4 a5 a6 a7 s a9 a10) (fun i s => (∀ j, j < i → s (19 * r + j) = a9 j) ∧ ∀ j, j < 19 * r ∨ 19 * r + i ≤ j → s j = a8 j) g.length 0 a8 (by omega) ⟨fun j hj => absurd hj (by omega), fun j _ => rfl⟩ ?_ ?_
  · intro n s h
    refine pk_le g.length g.length (fun _ => ⟨pk_in r 49 hr, nm_e (H _ _ ?_)⟩) (fun z => absurd z (by omega))
    rw [nI_clamp (show r < 2 ^ 31 by omega)]
    intro r' hr'
    by_cases e : r' = r
    · subst e
      rw [fw_up_s, pk_us]
      exact ⟨rfl, hg, fun k hk => by rw [h.1 k hk, h9 k hk], hb⟩
    · rw [fw_up_n R _ e, pk_un e]
      obtain ⟨q1, q2, q3, q4⟩ := hR r' hr'
      refine ⟨q1, q2, fun k hk => ?_, q4⟩
      rw [h.2 (19 * r' + k) (by omega)]
      exact q3 k hk
  · intro n i s hi h hw
    refine pk_le g.length i (fun z => absurd z (by omega)) (fun _ => ⟨pk_in i 40 (by omega), pk_in (19 * r + i) 931 (by omega) (nI_add _ _), nm_e (nm_r (nI_1 i) (hw _ ?_))⟩)
    rw [nI_add, nI_clamp (show 19 * r + i < 2 ^ 31 by omega), nI_clamp (show i < 2 ^ 31 by omega)]
    refine ⟨fun j hj => ?_, fun j hj => ?_⟩
    · by_cases e : j = i
      · rw [e, pk_us]
      · rw [pk_un (by omega)]
        exact h.1 j (by omega)
    · rw [pk_un (by omega)]
      exact h.2 j (by omega)
theorem fw_gt_nil (s : Nat × Nat) (pl : Bool) : fw_gt s pl [] = if pl = true then [] else [s] := by
  cases pl <;> rfl
theorem fw_addSum {post : St1 → Prop} {fl ft fg x y : Int32} {a1 a2 a3 a4 a5 a6 a7 a8 a9 a10 : Nat → Int32} {R : Nat → List (Nat × Nat)} (r : Nat) (s : Nat × Nat) (hR : fw_R R a7 a8) (hr : r < 49) (hx : x = nI r) (hy : y = fw_c s) (hs1 : s.1 < 64) (hs2 : s.2 < 64)
    (hsrt : (R r).Pairwise (fun x y => x.1 < y.1)) (hb : (∀ e, e ∈ R r → ¬ fw_le e s) → s.1 ≤ 18 ∧ s.2 ≤ 18)
    (H : ∀ l' fg' a7' a8' a9', fw_AD (R r) s l' → fw_R (fw_up R r l') a7' a8' → post (fl, ft, fg', a1, a2, a3, a4, a5, a6, a7', a8', a9', a10)) :
    wpX_addSum post (fl, ft, fg, a1, a2, a3, a4, a5, a6, a7, a8, a9, a10) x y := by
  subst hx hy
  obtain ⟨q1, q2, q3, q4⟩ := hR r hr
  have hlen := fw_gt_len s (R r) false
  have hlen2 : (fw_gt s false (R r)).length ≤ 20 := Nat.le_trans hlen (by show (R r).length + 1 ≤ 20; omega)
  have fin : ∀ fg' a9', (∀ e, e ∈ R r → ¬ fw_le e s) → fw_9 a9' (fw_gt s false (R r)) → fg' = nI (fw_gt s false (R r)).length → ∃ n, wX_addSum_215 post (nI r) (nI (19 * r)) fl ft fg' n 0 a1 a2 a3 a4 a5 a6 a7 a8 a9' a10 := by
    intro fg' a9' hn h9 e
    subst e
    have hsr := fw_gt_srt s (R r) hsrt hn
    have hbd : ∀ e, e ∈ fw_gt s false (R r) → e.1 ≤ 18 ∧ e.2 ≤ 18 := by
      intro e he
      rcases (fw_gt_mem s e (R r) false).mp he with z | z
      · rw [z.1]
        exact hb hn
      · exact q4 e z.1
    exact fw_as215 hR hr (fw_len19 hsr hbd) h9 hbd (fun a7' a8' h => H _ _ _ _ _ (Or.inr ⟨hn, rfl⟩) h)
  unfold wpX_addSum
  refine nm_r (pk_mul 19 r) ?_
  refine pk_loop (σ := Bool × List (Nat × Nat) × (Nat → Int32)) (fun n i t => wX_addSum_16 post (nI r) (fw_c s) (nI (19 * r)) fl ft n (fw_fl t.1) (nI i) (nI t.2.1.length) a1 a2 a3 a4 a5 a6 a7 a8 t.2.2 a10)
    (fun i t => ∃ k, i = 19 * r + k ∧ (∀ e, e ∈ (R r).take k → ¬ fw_le e s) ∧ fw_9 t.2.2 t.2.1 ∧ t.2.1 ++ fw_gt s t.1 ((R r).drop k) = fw_gt s false (R r)) (19 * r + (R r).length) (19 * r) (false, [], a9) (by omega) ⟨0, rfl, fun e he => absurd he List.not_mem_nil, fun k hk => absurd hk (by exact Nat.not_lt_zero k), rfl⟩ ?_ ?_
  · rintro n ⟨pl, g, b9⟩ ⟨k, hk, hn, h9, hg⟩
    have hk' : k = (R r).length := by omega
    subst hk'
    dsimp only at h9 hg ⊢
    rw [List.take_length] at hn
    rw [List.drop_length, fw_gt_nil] at hg
    show vp_in (nI r) 49 ∧ _
    refine ⟨pk_in r 49 hr, ?_⟩
    rw [nI_clamp (show r < 2 ^ 31 by omega), q1, nI_add]
    refine br_t (nI_le (Nat.le_refl _) (by omega)) ?_
    cases pl
    · rw [if_neg (fun z => Bool.noConfusion z)] at hg
      have hgl : g.length + 1 ≤ 20 := by
        have := congrArg List.length hg
        rw [List.length_append] at this
        have e : [s].length = 1 := rfl
        omega
      refine br_t rfl ⟨pk_in g.length 40 (by omega), nm_e (nm_r (nI_1 _) (fin _ _ hn ?_ ?_))⟩
      · rw [nI_clamp (show g.length < 2 ^ 31 by omega), ← hg]
        exact fw_9_add s h9
      · rw [← hg, List.length_append]
        rfl
    · rw [if_pos rfl, List.append_nil] at hg
      refine br_f (by decide) (fin _ _ hn ?_ ?_)
      · rw [← hg]
        exact h9
      · rw [← hg]
  · rintro n i ⟨pl, g, b9⟩ hi ⟨k, hk, hn, h9, hg⟩ hw
    subst hk
    dsimp only at h9 hg ⊢
    have hkl : k < (R r).length := by omega
    rw [fw_g_drop hkl] at hg
    have hem := fw_g_mem hkl
    obtain ⟨be1, be2⟩ := q4 _ hem
    have hgl : g.length ≤ 20 := by
      have := congrArg List.length hg
      rw [List.length_append] at this
      omega
    show vp_in (nI r) 49 ∧ _
    refine ⟨pk_in r 49 hr, ?_⟩
    rw [nI_clamp (show r < 2 ^ 31 by omega), q1, nI_add]
    refine br_f (nI_ge (by omega) (by omega)) ⟨pk_in (19 * r + k) 931 (by omega), ?_⟩
    refine fw_as51 (e := fw_g (R r) k) pl (by omega) (by omega) (q3 k hkl) (by omega) (by omega) hs1 hs2 h9 (fun hle => ?_) (fun hle a9' h9' => ?_)
    · refine H (R r) _ _ _ _ (Or.inl ⟨⟨_, hem, hle⟩, rfl⟩) ?_
      rw [fw_up_id]
      exact hR
    · refine hw (_, _, a9') ⟨k + 1, rfl, fun e he => ?_, h9', ?_⟩
      · rw [fw_g_take hkl] at he
        rcases List.mem_append.mp he with z | z
        · exact hn e z
        · rw [List.mem_singleton.mp z]
          exact hle
      · rw [← hg, List.append_assoc, List.append_assoc]
        rfl
end
section
/-! count -/
/-- how many sums of the list lead from the time t to the time (a, b) -/
def fw_ct (l : List (Nat × Nat)) (t a b : Nat) : Nat := l.countP (fun s => decide (t / 16 + s.1 = a ∧ t % 16 + s.2 = b))
/-- the same at place x of the marks, if x belongs to the place m -/
def fw_cm (m : Nat) (l : List (Nat × Nat)) (t x : Nat) : Nat := if x / 256 = m then fw_ct l t (x / 16 % 16) (x % 16) else 0
/-- what a token at the place p and the time t counts at x -/
def fw_cx (R : Nat → List (Nat × Nat)) (p t x : Nat) : Nat := fw_ct (R (7 * p + x / 256)) t (x / 16 % 16) (x % 16)
theorem fw_cm_0 (m t x : Nat) : fw_cm m [] t x = 0 := by
  unfold fw_cm fw_ct
  split <;> rfl
theorem fw_cm_s (m : Nat) (l : List (Nat × Nat)) (s : Nat × Nat) (t x : Nat) : fw_cm m (l ++ [s]) t x = fw_cm m l t x + (if x / 256 = m ∧ t / 16 + s.1 = x / 16 % 16 ∧ t % 16 + s.2 = x % 16 then 1 else 0) := by
  unfold fw_cm fw_ct
  by_cases h : x / 256 = m
  · rw [if_pos h, if_pos h, List.countP_append]
    by_cases g : t / 16 + s.1 = x / 16 % 16 ∧ t % 16 + s.2 = x % 16
    · rw [if_pos ⟨h, g⟩, List.countP_cons_of_pos (by exact decide_eq_true g)]
      rfl
    · rw [if_neg (fun z => g z.2), List.countP_cons_of_neg (by intro z; exact g (of_decide_eq_true z))]
      rfl
  · rw [if_neg h, if_neg h, if_neg (fun z => h z.1)]
theorem fw_mul_s (y : Int32) (n : Nat) : y * nI (n + 1) = y * nI n + y := by
  rw [nI_succ, Int32.mul_add, Int32.mul_one]
theorem fw_mul_0 (y : Int32) : y * nI 0 = 0 := by
  rw [nI_0, Int32.mul_zero]
theorem fw_sh4 {t : Nat} (h : t < 256) : nI t >>> ((4 : Int32) &&& 31) = nI (t / 16) := by
  rw [pk_shrN (n := t) (by omega) ((4 : Int32) &&& 31) 4 (by decide)]
theorem fw_an15 {t : Nat} (h : t < 256) : nI t &&& 15 = nI (t % 16) := by
  rw [pk_andN (n := t) (by omega) (m := 15) 4 (by decide)]
theorem fw_ix (m a b : Nat) : (256 : Int32) * nI m + 16 * nI a + nI b = nI (256 * m + 16 * a + b) := by
  show nI 256 * nI m + nI 16 * nI a + nI b = _
  rw [pk_mul, pk_mul, nI_add, nI_add]
theorem fw_cnt26 {post : St1 → Prop} {J : Int32 → (Nat → Int32) → (Nat → Int32) → (Nat → Int32) → (Nat → Int32) → (Nat → Int32) → (Nat → Int32) → (Nat → Int32) → (Nat → Int32) → (Nat → Int32) → (Nat → Int32) → Prop} {x1 y fl ft fg : Int32} {a1 a2 a3 a4 a5 a6 a7 a8 a9 a10 : Nat → Int32} {R : Nat → List (Nat × Nat)} {t m row : Nat} (hR : fw_R R a7 a8) (ht : t < 256) (hm : m < 7) (hrow : row < 49)
    (HJ : ∀ b, (∀ x, x < 1792 → b x = a10 x + y * nI (fw_cm m (R row) t x)) → J (nI (m + 1)) a1 a2 a3 a4 a5 a6 a7 a8 a9 b) :
    ∃ n, wX_count_26 post J x1 (nI t) y (nI m) (nI row) fl ft fg n (nI (19 * row)) a1 a2 a3 a4 a5 a6 a7 a8 a9 a10 := by
  obtain ⟨q1, q2, q3, q4⟩ := hR row hrow
  have e0 : (19 : Int32) * nI row + a7 (nI row).toNatClampNeg = nI (19 * row + (R row).length) := by
    rw [nI_clamp (show row < 2 ^ 31 by omega), q1]
    show nI 19 * nI row + _ = _
    rw [pk_mul, nI_add]
  refine pk_loop (fun n j s => wX_count_26 post J x1 (nI t) y (nI m) (nI row) fl ft fg n (nI j) a1 a2 a3 a4 a5 a6 a7 a8 a9 s)
    (fun j s => ∃ k, j = 19 * row + k ∧ ∀ x, x < 1792 → s x = a10 x + y * nI (fw_cm m ((R row).take k) t x)) (19 * row + (R row).length) (19 * row) a10 (by omega) ⟨0, rfl, fun x _ => ?_⟩ ?_ ?_
  · rw [List.take_zero, fw_cm_0, fw_mul_0, Int32.add_zero]
  · rintro n s ⟨k, hk, h⟩
    have hk' : k = (R row).length := by omega
    subst hk'
    rw [List.take_length] at h
    exact ⟨pk_in row 49 hrow, br_t (by rw [e0]; exact nI_le (Nat.le_refl _) (by omega)) (nm_r (nI_1 m) (HJ s h))⟩
  · rintro n i s hi ⟨k, hk, h⟩ hw
    subst hk
    have hkl : k < (R row).length := by omega
    have e8 := q3 k hkl
    have hb := q4 _ (fw_g_mem hkl)
    have E1 : (nI t >>> ((4 : Int32) &&& 31)) + ((a8 (nI (19 * row + k)).toNatClampNeg) >>> ((6 : Int32) &&& 31)) = nI (t / 16 + (fw_g (R row) k).1) := by
      rw [nI_clamp (show 19 * row + k < 2 ^ 31 by omega), e8, fw_c_hi (by omega) (by omega), fw_sh4 ht, nI_add]
    have E2 : (nI t &&& 15) + ((a8 (nI (19 * row + k)).toNatClampNeg) &&& 63) = nI (t % 16 + (fw_g (R row) k).2) := by
      rw [nI_clamp (show 19 * row + k < 2 ^ 31 by omega), e8, fw_c_lo (by omega) (by omega), fw_an15 ht, nI_add]
    have skip : ¬ (t / 16 + (fw_g (R row) k).1 ≤ 15 ∧ t % 16 + (fw_g (R row) k).2 ≤ 15) → ∀ x, x < 1792 → s x = a10 x + y * nI (fw_cm m ((R row).take (k + 1)) t x) := by
      intro hc x hx
      rw [fw_g_take hkl, fw_cm_s, if_neg (by omega), Nat.add_zero]
      exact h x hx
    refine ⟨pk_in row 49 hrow, br_f (by rw [e0]; exact nI_ge (by omega) (by omega)) ⟨pk_in (19 * row + k) 931 (by omega), nm_r E1 ⟨pk_in (19 * row + k) 931 (by omega), nm_r E2 ?_⟩⟩⟩
    refine pk_lt 15 (t / 16 + (fw_g (R row) k).1) (fun z => nm_r (nI_1 _) (hw s ⟨k + 1, rfl, skip (by omega)⟩)) (fun z => ?_)
    refine pk_lt 15 (t % 16 + (fw_g (R row) k).2) (fun z => nm_r (nI_1 _) (hw s ⟨k + 1, rfl, skip (by omega)⟩)) (fun z2 => ?_)
    have ex := fw_ix m (t / 16 + (fw_g (R row) k).1) (t % 16 + (fw_g (R row) k).2)
    refine ⟨pk_in _ 1792 (by omega) ex, pk_in _ 1792 (by omega) ex, nm_e (nm_r (nI_1 _) (hw _ ⟨k + 1, rfl, fun x hx => ?_⟩))⟩
    rw [ex, nI_clamp (by omega), fw_g_take hkl, fw_cm_s]
    by_cases e : x = 256 * m + 16 * (t / 16 + (fw_g (R row) k).1) + (t % 16 + (fw_g (R row) k).2)
    · rw [← e, pk_us, if_pos (by omega), fw_mul_s, h x hx, Int32.add_assoc]
    · rw [pk_un e, if_neg (by omega), Nat.add_zero]
      exact h x hx
theorem fw_count {post : St1 → Prop} {x1 x2 y fl ft fg : Int32} {a1 a2 a3 a4 a5 a6 a7 a8 a9 a10 : Nat → Int32} {R : Nat → List (Nat × Nat)} (p t : Nat) (hR : fw_R R a7 a8) (hp : p < 7) (ht : t < 256) (hx1 : x1 = nI p) (hx2 : x2 = nI t)
    (H : ∀ b, (∀ x, x < 1792 → b x = a10 x + y * nI (fw_cx R p t x)) → post (fl, ft, fg, a1, a2, a3, a4, a5, a6, a7, a8, a9, b)) :
    wpX_count post (fl, ft, fg, a1, a2, a3, a4, a5, a6, a7, a8, a9, a10) x1 x2 y := by
  subst hx1 hx2
  unfold wpX_count
  refine pk_loop (fun n i s => wX_count_3 post (nI p) (nI t) y fl ft fg n (nI i) a1 a2 a3 a4 a5 a6 a7 a8 a9 s)
    (fun i s => ∀ x, x < 1792 → s x = a10 x + y * nI (if x / 256 < i then fw_cx R p t x else 0)) 7 0 a10 (by omega) ?_ ?_ ?_
  · intro x hx
    rw [if_neg (by omega), fw_mul_0, Int32.add_zero]
  · intro n s h
    refine pk_le 7 7 (fun _ => H s (fun x hx => ?_)) (fun z => absurd z (by omega))
    have := h x hx
    rw [if_pos (by omega)] at this
    exact this
  · intro n i s hi h hw
    refine pk_le 7 i (fun z => absurd z (by omega)) (fun _ => nm_r (e' := nI (7 * p + i)) ?_ (nm_r (pk_mul 19 (7 * p + i)) ?_))
    · show nI 7 * nI p + nI i = _
      rw [pk_mul, nI_add]
    · refine fw_cnt26 (R := R) hR ht hi (by omega) (fun b hb => hw b (fun x hx => ?_))
      rw [hb x hx, h x hx]
      unfold fw_cm fw_cx
      by_cases e : x / 256 = i
      · subst e
        rw [if_neg (by omega), if_pos rfl, if_pos (by omega), fw_mul_0, Int32.add_zero]
      · rw [if_neg e, fw_mul_0, Int32.add_zero]
        by_cases e2 : x / 256 < i
        · rw [if_pos e2, if_pos (by omega)]
        · rw [if_neg e2, if_neg (by omega)]
/-- a sum over the places below n -/
def fw_sm : Nat → (Nat → Nat) → Nat
  | 0, _ => 0
  | n + 1, f => fw_sm n f + f n
theorem fw_sm_eq {f g : Nat → Nat} : ∀ {n : Nat}, (∀ k, k < n → f k = g k) → fw_sm n f = fw_sm n g
  | 0, _ => rfl
  | n + 1, h => by
    show fw_sm n f + f n = fw_sm n g + g n
    rw [fw_sm_eq (fun k hk => h k (by omega)), h n (by omega)]
theorem fw_sm_le {f g : Nat → Nat} : ∀ {n : Nat}, (∀ k, k < n → f k ≤ g k) → fw_sm n f ≤ fw_sm n g
  | 0, _ => Nat.le_refl _
  | n + 1, h => Nat.add_le_add (fw_sm_le (fun k hk => h k (by omega))) (h n (by omega))
theorem fw_sm_c {f : Nat → Nat} {c : Nat} : ∀ {n : Nat}, (∀ k, k < n → f k ≤ c) → fw_sm n f ≤ n * c
  | 0, _ => Nat.zero_le _
  | n + 1, h => by
    rw [Nat.succ_mul]
    exact Nat.add_le_add (fw_sm_c (fun k hk => h k (by omega))) (h n (by omega))
theorem fw_sm_in {f : Nat → Nat} {k : Nat} : ∀ {n : Nat}, k < n → f k ≤ fw_sm n f
  | 0, h => absurd h (by omega)
  | n + 1, h => by
    show f k ≤ fw_sm n f + f n
    by_cases e : k = n
    · rw [e]
      exact Nat.le_add_left _ _
    · exact Nat.le_trans (fw_sm_in (n := n) (by omega)) (Nat.le_add_right _ _)
theorem fw_sm_pos {f : Nat → Nat} : ∀ {n : Nat}, 0 < fw_sm n f → ∃ k, k < n ∧ 0 < f k
  | 0, h => absurd h (Nat.lt_irrefl 0)
  | n + 1, h => by
    have h' : 0 < fw_sm n f + f n := h
    by_cases e : 0 < f n
    · exact ⟨n, by omega, e⟩
    · obtain ⟨k, hk, hf⟩ := fw_sm_pos (f := f) (n := n) (by omega)
      exact ⟨k, by omega, hf⟩
/-- one place of the sum changes -/
theorem fw_sm_ch {f g : Nat → Nat} {k : Nat} : ∀ {n : Nat}, k < n → (∀ j, j < n → j ≠ k → g j = f j) → fw_sm n g + f k = fw_sm n f + g k
  | 0, h, _ => absurd h (by omega)
  | n + 1, h, hj => by
    show fw_sm n g + g n + f k = fw_sm n f + f n + g k
    by_cases e : k = n
    · have : fw_sm n g = fw_sm n f := fw_sm_eq (fun j hj' => hj j (by omega) (by omega))
      rw [this, e]
      omega
    · have h1 := fw_sm_ch (f := f) (g := g) (n := n) (k := k) (by omega) (fun j hj' hk => hj j (by omega) hk)
      have h2 := hj n (by omega) (fun z => e z.symm)
      omega
theorem fw_ct_le (l : List (Nat × Nat)) (t a b : Nat) : fw_ct l t a b ≤ l.length := List.countP_le_length
theorem fw_ct_pos {l : List (Nat × Nat)} {t a b : Nat} : 0 < fw_ct l t a b ↔ ∃ s, s ∈ l ∧ t / 16 + s.1 = a ∧ t % 16 + s.2 = b := by
  unfold fw_ct
  rw [List.countP_pos_iff]
  constructor
  · rintro ⟨s, hs, h⟩
    exact ⟨s, hs, of_decide_eq_true h⟩
  · rintro ⟨s, hs, h⟩
    exact ⟨s, hs, decide_eq_true h⟩
end
section
/-! joinOver -/
theorem fw_up_up (R : Nat → List (Nat × Nat)) (r : Nat) (l l' : List (Nat × Nat)) : fw_up (fw_up R r l) r l' = fw_up R r l' := by
  funext j
  by_cases e : j = r
  · rw [e, fw_up_s, fw_up_s]
  · rw [fw_up_n _ _ e, fw_up_n _ _ e, fw_up_n _ _ e]
theorem fw_V_back {E : Nat → Nat → Nat × Nat → Prop} {k i j : Nat} {l : List (Nat × Nat)} (h : fw_V E (k + 1) i j l) (hs : i = k ∨ j = k ∨ i = j) : fw_V E k i j l := by
  refine ⟨h.1, fun s hm => ?_, fun w hw => h.2.2 w (fw_pt_mono hw)⟩
  rcases fw_pt_sp (h.2.1 s hm) with z | ⟨z1, z2, z3, _⟩
  · exact z
  · rcases hs with y | y | y
    · exact absurd y z1
    · exact absurd y z2
    · exact absurd y z3
theorem fw_c_ad (s t : Nat × Nat) : fw_c s + fw_c t = fw_c (fw_ad s t) := by
  unfold fw_c fw_ad
  rw [nI_add]
  congr 1
  dsimp only
  omega
/-- the state of a row u v while k is joined in: all pairs ahead of p, q have been added -/
def fw_JI (E : Nat → Nat → Nat × Nat → Prop) (k u v : Nat) (R : Nat → List (Nat × Nat)) (a7 a8 : Nat → Int32) (p q : Nat) : Prop :=
  ∃ l, fw_R (fw_up R (7 * u + v) l) a7 a8 ∧ fw_J E k u v l ∧ ∀ p' q', (p' < p ∨ p' = p ∧ q' < q) → p' < (R (7 * u + k)).length → q' < (R (7 * k + v)).length → ∃ e, e ∈ l ∧ fw_le e (fw_ad (fw_g (R (7 * u + k)) p') (fw_g (R (7 * k + v)) q'))
theorem fw_jo62 {post : St1 → Prop} {J48 : Int32 → Int32 → Int32 → Int32 → (Nat → Int32) → (Nat → Int32) → (Nat → Int32) → (Nat → Int32) → (Nat → Int32) → (Nat → Int32) → (Nat → Int32) → (Nat → Int32) → (Nat → Int32) → (Nat → Int32) → Prop} {fl ft fg : Int32} {a1 a2 a3 a4 a5 a6 a7 a8 a9 a10 : Nat → Int32} {E : Nat → Nat → Nat × Nat → Prop} {R : Nat → List (Nat × Nat)} {k u v p : Nat} (ok : fw_ok E) (hu : u < 7) (hv : v < 7) (hk : k < 7) (huk : u ≠ k) (hvk : v ≠ k)
    (v1 : fw_V E k u k (R (7 * u + k))) (v2 : fw_V E k k v (R (7 * k + v))) (hp : p < (R (7 * u + k)).length) (h0 : fw_JI E k u v R a7 a8 p 0)
    (HJ : ∀ fg' a7' a8' a9', fw_JI E k u v R a7' a8' (p + 1) 0 → J48 (nI (p + 1)) fl ft fg' a1 a2 a3 a4 a5 a6 a7' a8' a9' a10) :
    ∃ n, wX_joinOver_62 post J48 (nI (7 * u + v)) (nI (7 * u + k)) (nI (7 * k + v)) (nI p) n 0 fl ft fg a1 a2 a3 a4 a5 a6 a7 a8 a9 a10 := by
  have n1 : 7 * u + k ≠ 7 * u + v := by omega
  have n2 : 7 * k + v ≠ 7 * u + v := by omega
  refine pk_loop (σ := Int32 × (Nat → Int32) × (Nat → Int32) × (Nat → Int32)) (fun n q s => wX_joinOver_62 post J48 (nI (7 * u + v)) (nI (7 * u + k)) (nI (7 * k + v)) (nI p) n (nI q) fl ft s.1 a1 a2 a3 a4 a5 a6 s.2.1 s.2.2.1 s.2.2.2 a10)
    (fun q s => fw_JI E k u v R s.2.1 s.2.2.1 p q) (R (7 * k + v)).length 0 (fg, a7, a8, a9) (by omega) h0 ?_ ?_
  · rintro n ⟨g, b7, b8, b9⟩ ⟨l, h1, h2, h3⟩
    dsimp only at h1 ⊢
    obtain ⟨q1, q2, q3, q4⟩ := h1 (7 * k + v) (by omega)
    rw [fw_up_n R l n2] at q1 q2
    refine ⟨pk_in (7 * k + v) 49 (by omega), pk_le _ _ (fun _ => nm_r (nI_1 p) (HJ _ _ _ _ ⟨l, h1, h2, fun p' q' hpq h4 h5 => ?_⟩)) (fun z => absurd z (Nat.lt_irrefl _)) (by rw [nI_clamp (by omega)]; exact q1) rfl⟩
    exact h3 p' q' (by omega) h4 h5
  · rintro n q ⟨g, b7, b8, b9⟩ hq ⟨l, h1, h2, h3⟩ hw
    dsimp only at h1 hw ⊢
    obtain ⟨q1, q2, q3, q4⟩ := h1 (7 * k + v) (by omega)
    obtain ⟨r1, r2, r3, r4⟩ := h1 (7 * u + k) (by omega)
    rw [fw_up_n R l n2] at q1 q2 q3 q4
    rw [fw_up_n R l n1] at r1 r2 r3 r4
    have m1 := fw_g_mem hp
    have m2 := fw_g_mem hq
    have b1 := r4 _ m1
    have b2 := q4 _ m2
    have e1 : (19 : Int32) * nI (7 * u + k) + nI p = nI (19 * (7 * u + k) + p) := by
      show nI 19 * nI (7 * u + k) + nI p = _
      rw [pk_mul, nI_add]
    have e2 : (19 : Int32) * nI (7 * k + v) + nI q = nI (19 * (7 * k + v) + q) := by
      show nI 19 * nI (7 * k + v) + nI q = _
      rw [pk_mul, nI_add]
    have es : b8 ((19 : Int32) * nI (7 * u + k) + nI p).toNatClampNeg + b8 ((19 : Int32) * nI (7 * k + v) + nI q).toNatClampNeg = fw_c (fw_ad (fw_g (R (7 * u + k)) p) (fw_g (R (7 * k + v)) q)) := by
      rw [e1, e2, nI_clamp (by omega), nI_clamp (by omega), r3 p hp, q3 q hq, fw_c_ad]
    have hl := fw_up_s R (7 * u + v) l
    refine ⟨pk_in (7 * k + v) 49 (by omega), br_f ?_ ⟨pk_in _ 931 (by omega) e1, pk_in _ 931 (by omega) e2, ?_⟩⟩
    · rw [nI_clamp (by omega), q1]
      exact nI_ge hq (by omega)
    · refine fw_addSum (7 * u + v) _ h1 (by omega) rfl es ?_ ?_ ?_ ?_ ?_
      · show (fw_g (R (7 * u + k)) p).1 + (fw_g (R (7 * k + v)) q).1 < 64
        omega
      · show (fw_g (R (7 * u + k)) p).2 + (fw_g (R (7 * k + v)) q).2 < 64
        omega
      · rw [hl]
        exact h2.1
      · rw [hl]
        exact fun hn => fw_pt_bd ok (fw_J_bd ok h2 (v1.2.1 _ m1) (v2.2.1 _ m2) hn)
      · rw [hl]
        intro l' fg' a7' a8' a9' ad hR'
        rw [fw_up_up] at hR'
        refine nm_r (nI_1 q) (hw (fg', a7', a8', a9') ⟨l', hR', fw_J_add ok h2 (v1.2.1 _ m1) (v2.2.1 _ m2) ad, fun p' q' hpq h4 h5 => ?_⟩)
        by_cases e : p' = p ∧ q' = q
        · rw [e.1, e.2]
          exact fw_AD_new ad
        · exact fw_AD_old ad (h3 p' q' (by omega) h4 h5)
theorem fw_jo48 {post : St1 → Prop} {fl ft fg : Int32} {a1 a2 a3 a4 a5 a6 a7 a8 a9 a10 : Nat → Int32} {E : Nat → Nat → Nat × Nat → Prop} {R : Nat → List (Nat × Nat)} {k u v : Nat} (ok : fw_ok E) (hu : u < 7) (hv : v < 7) (hk : k < 7) (huk : u ≠ k) (hvk : v ≠ k)
    (v0 : fw_V E k u v (R (7 * u + v))) (v1 : fw_V E k u k (R (7 * u + k))) (v2 : fw_V E k k v (R (7 * k + v))) (hR : fw_R R a7 a8)
    (H : ∀ l' fg' a7' a8' a9', fw_V E (k + 1) u v l' → fw_R (fw_up R (7 * u + v) l') a7' a8' → post (fl, ft, fg', a1, a2, a3, a4, a5, a6, a7', a8', a9', a10)) :
    ∃ n, wX_joinOver_48 post (nI (7 * u + v)) (nI (7 * u + k)) (nI (7 * k + v)) n 0 fl ft fg a1 a2 a3 a4 a5 a6 a7 a8 a9 a10 := by
  have n1 : 7 * u + k ≠ 7 * u + v := by omega
  refine pk_loop (σ := Int32 × (Nat → Int32) × (Nat → Int32) × (Nat → Int32)) (fun n p s => wX_joinOver_48 post (nI (7 * u + v)) (nI (7 * u + k)) (nI (7 * k + v)) n (nI p) fl ft s.1 a1 a2 a3 a4 a5 a6 s.2.1 s.2.2.1 s.2.2.2 a10)
    (fun p s => fw_JI E k u v R s.2.1 s.2.2.1 p 0) (R (7 * u + k)).length 0 (fg, a7, a8, a9) (by omega) ⟨R (7 * u + v), by rw [fw_up_id]; exact hR, fw_J_0 v0, fun p' q' h => absurd h (by omega)⟩ ?_ ?_
  · rintro n ⟨g, b7, b8, b9⟩ ⟨l, h1, h2, h3⟩
    dsimp only at h1 ⊢
    obtain ⟨r1, r2, r3, r4⟩ := h1 (7 * u + k) (by omega)
    rw [fw_up_n R l n1] at r1 r2
    refine ⟨pk_in (7 * u + k) 49 (by omega), pk_le _ _ (fun _ => H l _ _ _ _ (fw_J_end h2 v1 v2 (fun s1 s2 m1 m2 => ?_)) h1) (fun z => absurd z (Nat.lt_irrefl _)) (by rw [nI_clamp (by omega)]; exact r1) rfl⟩
    obtain ⟨p', hp', rfl⟩ := fw_g_of m1
    obtain ⟨q', hq', rfl⟩ := fw_g_of m2
    exact h3 p' q' (Or.inl hp') hp' hq'
  · rintro n p ⟨g, b7, b8, b9⟩ hp h hw
    have h' := h
    obtain ⟨l, h1, h2, h3⟩ := h'
    dsimp only at h1 hw ⊢
    obtain ⟨r1, r2, r3, r4⟩ := h1 (7 * u + k) (by omega)
    rw [fw_up_n R l n1] at r1 r2
    refine ⟨pk_in (7 * u + k) 49 (by omega), br_f ?_ (fw_jo62 ok hu hv hk huk hvk v1 v2 hp h (fun fg' a7' a8' a9' hj => hw (fg', a7', a8', a9') hj))⟩
    rw [nI_clamp (by omega), r1]
    exact nI_ge hp (by omega)
theorem fw_join {post : St1 → Prop} {fl ft fg x y : Int32} {a1 a2 a3 a4 a5 a6 a7 a8 a9 a10 : Nat → Int32} {E : Nat → Nat → Nat × Nat → Prop} {R : Nat → List (Nat × Nat)} {k u v : Nat} (ok : fw_ok E) (hu : u < 7) (hv : v < 7) (hk : k < 7) (hx : x = nI (7 * u + v)) (hy : y = nI k)
    (v0 : fw_V E k u v (R (7 * u + v))) (v1 : fw_V E k u k (R (7 * u + k))) (v2 : fw_V E k k v (R (7 * k + v))) (hR : fw_R R a7 a8)
    (H : ∀ l' fg' a7' a8' a9', fw_V E (k + 1) u v l' → fw_R (fw_up R (7 * u + v) l') a7' a8' → post (fl, ft, fg', a1, a2, a3, a4, a5, a6, a7', a8', a9', a10)) :
    wpX_joinOver post (fl, ft, fg, a1, a2, a3, a4, a5, a6, a7, a8, a9, a10) x y := by
  subst hx hy
  have d7 : nI (7 * u + v) / (7 : Int32) = nI u := by
    show nI (7 * u + v) / nI 7 = _
    rw [pk_div (by omega) (by omega) (by omega)]
    congr 1
    omega
  have m7 : nI (7 * u + v) - nI (7 * u + v) / (7 : Int32) * 7 = nI v := by
    show nI (7 * u + v) - nI (7 * u + v) / nI 7 * nI 7 = _
    rw [pk_rem (by omega) (by omega) (by omega)]
    congr 1
    omega
  have m8 : nI (7 * u + v) - nI (7 * u + v) / (8 : Int32) * 8 = nI ((7 * u + v) % 8) := by
    show nI (7 * u + v) - nI (7 * u + v) / nI 8 * nI 8 = _
    rw [pk_rem (by omega) (by omega) (by omega)]
  have skip : (u = k ∨ v = k ∨ u = v) → post (fl, ft, fg, a1, a2, a3, a4, a5, a6, a7, a8, a9, a10) := fun h => H (R (7 * u + v)) _ _ _ _ (fw_V_skip v0 h) (by rw [fw_up_id]; exact hR)
  have e1 : (7 : Int32) * nI u + nI k = nI (7 * u + k) := by
    show nI 7 * nI u + nI k = _
    rw [pk_mul, nI_add]
  have e2 : (7 : Int32) * nI k + nI v = nI (7 * k + v) := by
    show nI 7 * nI k + nI v = _
    rw [pk_mul, nI_add]
  unfold wpX_joinOver
  dsimp only
  rw [m7, m8, d7]
  refine ⟨by decide, nm_r e1 ⟨by decide, nm_r e2 ⟨by decide, pk_eq u k (fun z => skip (Or.inl z)) (fun z => ⟨by decide, pk_eq v k (fun y => skip (Or.inr (Or.inl y))) (fun y => ⟨by decide, pk_eq ((7 * u + v) % 8) 0 (fun w => skip (Or.inr (Or.inr (by omega)))) (fun w => ?_)⟩)⟩)⟩⟩⟩
  exact fw_jo48 ok hu hv hk z y v0 v1 v2 hR H
end
section
/-! rebuild -/
/-- the edges: the first n lines -/
def fw_E (n : Nat) (a1 a2 a3 a4 : Nat → Int32) (u v : Nat) (d : Nat × Nat) : Prop :=
  u < 7 ∧ v < 7 ∧ d.1 ≤ 3 ∧ d.2 ≤ 3 ∧ ∃ k, k < n ∧ a1 k = nI u ∧ a2 k = nI v ∧ a3 k = nI d.1 ∧ a4 k = nI d.2
theorem fw_E_ok (n : Nat) (a1 a2 a3 a4 : Nat → Int32) : fw_ok (fw_E n a1 a2 a3 a4) := fun _ _ _ h => ⟨h.1, h.2.1, h.2.2.1, h.2.2.2.1⟩
/-- lines and tokens are well formed -/
def fw_ln (n : Nat) (a1 a2 a3 a4 : Nat → Int32) : Prop := ∀ k, k < n → ∃ u v p q, u < 7 ∧ v < 7 ∧ p ≤ 3 ∧ q ≤ 3 ∧ a1 k = nI u ∧ a2 k = nI v ∧ a3 k = nI p ∧ a4 k = nI q
def fw_tk (n : Nat) (a5 a6 : Nat → Int32) : Prop := ∀ k, k < n → ∃ p t, p < 7 ∧ t < 256 ∧ a5 k = nI p ∧ a6 k = nI t
/-- the marks count the tokens -/
def fw_tc (R : Nat → List (Nat × Nat)) (a5 a6 : Nat → Int32) (x k : Nat) : Nat := fw_cx R (a5 k).toNatClampNeg (a6 k).toNatClampNeg x
def fw_M (R : Nat → List (Nat × Nat)) (nt : Nat) (a5 a6 a10 : Nat → Int32) : Prop := ∀ x, x < 1792 → a10 x = nI (fw_sm nt (fw_tc R a5 a6 x))
/-- every row is right at the stage k -/
def fw_Vs (E : Nat → Nat → Nat × Nat → Prop) (k : Nat) (R : Nat → List (Nat × Nat)) : Prop := ∀ i j, i < 7 → j < 7 → fw_V E k i j (R (7 * i + j))
def fw_I (nl nt : Nat) (R : Nat → List (Nat × Nat)) (a1 a2 a3 a4 a5 a6 a7 a8 a10 : Nat → Int32) : Prop :=
  nl ≤ 12 ∧ nt ≤ 20 ∧ fw_ln nl a1 a2 a3 a4 ∧ fw_tk nt a5 a6 ∧ fw_R R a7 a8 ∧ fw_Vs (fw_E nl a1 a2 a3 a4) 7 R ∧ fw_M R nt a5 a6 a10
/-! tokens -/
theorem fw_rb167 {post : St1 → Prop} {fl fg : Int32} {a1 a2 a3 a4 a5 a6 a7 a8 a9 a10 : Nat → Int32} {R : Nat → List (Nat × Nat)} {nt : Nat} (hnt : nt ≤ 20) (ht : fw_tk nt a5 a6) (hR : fw_R R a7 a8) (h0 : ∀ x, x < 1792 → a10 x = 0)
    (H : ∀ b, fw_M R nt a5 a6 b → post (fl, nI nt, fg, a1, a2, a3, a4, a5, a6, a7, a8, a9, b)) :
    ∃ n, wX_rebuild_167 post n 0 fl (nI nt) fg a1 a2 a3 a4 a5 a6 a7 a8 a9 a10 := by
  refine pk_loop (fun n i s => wX_rebuild_167 post n (nI i) fl (nI nt) fg a1 a2 a3 a4 a5 a6 a7 a8 a9 s) (fun i s => fw_M R i a5 a6 s) nt 0 a10 (by omega) (fun x hx => h0 x hx) ?_ ?_
  · intro n s h
    exact pk_le nt nt (fun _ => H s h) (fun z => absurd z (by omega))
  · intro n i s hi h hw
    obtain ⟨p, t, hp, htt, e5, e6⟩ := ht i hi
    refine pk_le nt i (fun z => absurd z (by omega)) (fun _ => ⟨pk_in i 20 (by omega), pk_in i 20 (by omega), ?_⟩)
    refine fw_count (R := R) p t hR hp htt (by rw [nI_clamp (by omega)]; exact e5) (by rw [nI_clamp (by omega)]; exact e6) (fun b hb => nm_r (nI_1 i) (hw b (fun x hx => ?_)))
    rw [hb x hx, h x hx, Int32.one_mul, nI_add]
    congr 1
    show _ = fw_sm i (fw_tc R a5 a6 x) + fw_tc R a5 a6 x i
    unfold fw_tc
    rw [e5, e6, nI_clamp (show p < 2 ^ 31 by omega), nI_clamp (show t < 2 ^ 31 by omega)]
theorem fw_rb145 {post : St1 → Prop} {fl fg : Int32} {a1 a2 a3 a4 a5 a6 a7 a8 a9 a10 : Nat → Int32} {R : Nat → List (Nat × Nat)} {nt : Nat} (hnt : nt ≤ 20) (ht : fw_tk nt a5 a6) (hR : fw_R R a7 a8)
    (H : ∀ b, fw_M R nt a5 a6 b → post (fl, nI nt, fg, a1, a2, a3, a4, a5, a6, a7, a8, a9, b)) :
    ∃ n, wX_rebuild_145 post fl (nI nt) fg n 0 a1 a2 a3 a4 a5 a6 a7 a8 a9 a10 := by
  refine pk_loop (fun n i s => wX_rebuild_145 post fl (nI nt) fg n (nI i) a1 a2 a3 a4 a5 a6 a7 a8 a9 s) (fun i s => ∀ x, x < i → s x = 0) 1792 0 a10 (by omega) (fun x hx => absurd hx (by omega)) ?_ ?_
  · intro n s h
    exact pk_le 1792 1792 (fun _ => fw_rb167 hnt ht hR h H) (fun z => absurd z (by omega))
  · intro n i s hi h hw
    refine pk_le 1792 i (fun z => absurd z (by omega)) (fun _ => ⟨pk_in i 1792 (by omega), nm_e (nm_r (nI_1 i) (hw _ (fun x hx => ?_)))⟩)
    rw [nI_clamp (by omega)]
    by_cases e : x = i
    · rw [e, pk_us]
    · rw [pk_un e]
      exact h x (by omega)
/-! the joins -/
theorem fw_rb119 {post : St1 → Prop} {J : Int32 → Int32 → Int32 → Int32 → (Nat → Int32) → (Nat → Int32) → (Nat → Int32) → (Nat → Int32) → (Nat → Int32) → (Nat → Int32) → (Nat → Int32) → (Nat → Int32) → (Nat → Int32) → (Nat → Int32) → Prop} {fl ft fg : Int32} {a1 a2 a3 a4 a5 a6 a7 a8 a9 a10 : Nat → Int32} {E : Nat → Nat → Nat × Nat → Prop} {R : Nat → List (Nat × Nat)} {k : Nat} (ok : fw_ok E) (hk : k < 7) (hR : fw_R R a7 a8) (hV : fw_Vs E k R)
    (HJ : ∀ R' fg' a7' a8' a9', fw_R R' a7' a8' → fw_Vs E (k + 1) R' → J (nI (k + 1)) fl ft fg' a1 a2 a3 a4 a5 a6 a7' a8' a9' a10) :
    ∃ n, wX_rebuild_119 post J (nI k) n 0 fl ft fg a1 a2 a3 a4 a5 a6 a7 a8 a9 a10 := by
  refine pk_loop (σ := Int32 × (Nat → Int32) × (Nat → Int32) × (Nat → Int32)) (fun n i s => wX_rebuild_119 post J (nI k) n (nI i) fl ft s.1 a1 a2 a3 a4 a5 a6 s.2.1 s.2.2.1 s.2.2.2 a10)
    (fun i s => ∃ R', fw_R R' s.2.1 s.2.2.1 ∧ ∀ u v, u < 7 → v < 7 → fw_V E (if 7 * u + v < i then k + 1 else k) u v (R' (7 * u + v))) 49 0 (fg, a7, a8, a9) (by omega) ⟨R, hR, fun u v hu hv => by rw [if_neg (by omega)]; exact hV u v hu hv⟩ ?_ ?_
  · rintro n ⟨g, b7, b8, b9⟩ ⟨R', h1, h2⟩
    dsimp only at h1 ⊢
    refine pk_le 49 49 (fun _ => nm_r (nI_1 k) (HJ R' _ _ _ _ h1 (fun u v hu hv => ?_))) (fun z => absurd z (by omega))
    have := h2 u v hu hv
    rw [if_pos (by omega)] at this
    exact this
  · rintro n i ⟨g, b7, b8, b9⟩ hi ⟨R', h1, h2⟩ hw
    dsimp only at h1 hw ⊢
    have st : ∀ u v, u < 7 → v < 7 → (u = k ∨ v = k ∨ u = v) → fw_V E k u v (R' (7 * u + v)) := by
      intro u v hu hv hs
      have := h2 u v hu hv
      by_cases e : 7 * u + v < i
      · rw [if_pos e] at this
        exact fw_V_back this hs
      · rw [if_neg e] at this
        exact this
    have ei : 7 * (i / 7) + i % 7 = i := by omega
    refine pk_le 49 i (fun z => absurd z (by omega)) (fun _ => ?_)
    refine fw_join (u := i / 7) (v := i % 7) (k := k) (R := R') ok (by omega) (by omega) hk (by rw [ei]) rfl ?_ (st _ _ (by omega) hk (Or.inr (Or.inl rfl))) (st _ _ hk (by omega) (Or.inl rfl)) h1 ?_
    · have := h2 (i / 7) (i % 7) (by omega) (by omega)
      rw [if_neg (by omega)] at this
      exact this
    · intro l' fg' a7' a8' a9' hl hR'
      refine nm_r (nI_1 i) (hw (fg', a7', a8', a9') ⟨_, hR', fun u v hu hv => ?_⟩)
      by_cases e : 7 * u + v = 7 * (i / 7) + i % 7
      · have eu : u = i / 7 := by omega
        have ev : v = i % 7 := by omega
        rw [if_pos (by omega), e, fw_up_s, eu, ev]
        exact hl
      · rw [fw_up_n _ _ e]
        have := h2 u v hu hv
        by_cases e2 : 7 * u + v < i
        · rw [if_pos e2] at this
          rw [if_pos (by omega)]
          exact this
        · rw [if_neg e2] at this
          rw [if_neg (by omega)]
          exact this
theorem fw_rb111 {post : St1 → Prop} {fl fg : Int32} {a1 a2 a3 a4 a5 a6 a7 a8 a9 a10 : Nat → Int32} {E : Nat → Nat → Nat × Nat → Prop} {R : Nat → List (Nat × Nat)} {nt : Nat} (ok : fw_ok E) (hnt : nt ≤ 20) (ht : fw_tk nt a5 a6) (hR : fw_R R a7 a8) (hV : fw_Vs E 0 R)
    (H : ∀ R' fg' a7' a8' a9' b, fw_R R' a7' a8' → fw_Vs E 7 R' → fw_M R' nt a5 a6 b → post (fl, nI nt, fg', a1, a2, a3, a4, a5, a6, a7', a8', a9', b)) :
    ∃ n, wX_rebuild_111 post n 0 fl (nI nt) fg a1 a2 a3 a4 a5 a6 a7 a8 a9 a10 := by
  refine pk_loop (σ := Int32 × (Nat → Int32) × (Nat → Int32) × (Nat → Int32)) (fun n i s => wX_rebuild_111 post n (nI i) fl (nI nt) s.1 a1 a2 a3 a4 a5 a6 s.2.1 s.2.2.1 s.2.2.2 a10)
    (fun i s => ∃ R', fw_R R' s.2.1 s.2.2.1 ∧ fw_Vs E i R') 7 0 (fg, a7, a8, a9) (by omega) ⟨R, hR, hV⟩ ?_ ?_
  · rintro n ⟨g, b7, b8, b9⟩ ⟨R', h1, h2⟩
    dsimp only at h1 ⊢
    exact pk_le 7 7 (fun _ => fw_rb145 hnt ht h1 (fun b hb => H R' _ _ _ _ b h1 h2 hb)) (fun z => absurd z (by omega))
  · rintro n i ⟨g, b7, b8, b9⟩ hi ⟨R', h1, h2⟩ hw
    dsimp only at h1 hw ⊢
    exact pk_le 7 i (fun z => absurd z (by omega)) (fun _ => fw_rb119 ok hi h1 h2 (fun R'' fg' a7' a8' a9' g1 g2 => hw (fg', a7', a8', a9') ⟨R'', g1, g2⟩))
/-! the lines -/
/-- stage 0: only the edges themselves -/
theorem fw_V_0 {E : Nat → Nat → Nat × Nat → Prop} {i j : Nat} {l : List (Nat × Nat)} : fw_V E 0 i j l ↔ l.Pairwise (fun x y => x.1 < y.1) ∧ (∀ s, s ∈ l → (i = j ∧ s = (0, 0) ∨ i ≠ j ∧ E i j s)) ∧ (∀ w, (i = j ∧ w = (0, 0) ∨ i ≠ j ∧ E i j w) → ∃ s, s ∈ l ∧ fw_le s w) := by
  have key : ∀ w, fw_pt E 0 i j w ↔ (i = j ∧ w = (0, 0) ∨ i ≠ j ∧ E i j w) := by
    intro w
    by_cases e : i = j
    · subst e
      constructor
      · exact fun h => Or.inl ⟨rfl, fw_pt_i0 h⟩
      · rintro (h | h)
        · rw [h.2]
          exact fw_pt_ii 0 i
        · exact absurd rfl h.1
    · constructor
      · exact fun h => Or.inr ⟨e, fw_pt_0 h e⟩
      · rintro (h | h)
        · exact absurd h.1 e
        · exact fw_pt_e h.2 e
  unfold fw_V
  constructor
  · exact fun h => ⟨h.1, fun s hs => (key s).mp (h.2.1 s hs), fun w hw => h.2.2 w ((key w).mpr hw)⟩
  · exact fun h => ⟨h.1, fun s hs => (key s).mpr (h.2.1 s hs), fun w hw => h.2.2 w ((key w).mp hw)⟩
theorem fw_E_s {n : Nat} {a1 a2 a3 a4 : Nat → Int32} {u v p q : Nat} (hu : u < 7) (hv : v < 7) (hp : p ≤ 3) (hq : q ≤ 3) (e1 : a1 n = nI u) (e2 : a2 n = nI v) (e3 : a3 n = nI p) (e4 : a4 n = nI q) (u' v' : Nat) (d : Nat × Nat) :
    fw_E (n + 1) a1 a2 a3 a4 u' v' d ↔ fw_E n a1 a2 a3 a4 u' v' d ∨ (u' = u ∧ v' = v ∧ d = (p, q)) := by
  constructor
  · rintro ⟨h1, h2, h3, h4, k, hk, g1, g2, g3, g4⟩
    by_cases e : k = n
    · subst e
      rw [e1] at g1
      rw [e2] at g2
      rw [e3] at g3
      rw [e4] at g4
      have f1 := (nI_eq (by omega) (by omega)).mp g1
      have f2 := (nI_eq (by omega) (by omega)).mp g2
      have f3 := (nI_eq (by omega) (by omega)).mp g3
      have f4 := (nI_eq (by omega) (by omega)).mp g4
      exact Or.inr ⟨f1.symm, f2.symm, by rw [f3, f4]⟩
    · exact Or.inl ⟨h1, h2, h3, h4, k, by omega, g1, g2, g3, g4⟩
  · rintro (⟨h1, h2, h3, h4, k, hk, g⟩ | ⟨rfl, rfl, rfl⟩)
    · exact ⟨h1, h2, h3, h4, k, by omega, g⟩
    · exact ⟨hu, hv, hp, hq, n, by omega, e1, e2, e3, e4⟩
theorem fw_rb44 {post : St1 → Prop} {fg : Int32} {a1 a2 a3 a4 a5 a6 a7 a8 a9 a10 : Nat → Int32} {R : Nat → List (Nat × Nat)} {nl nt : Nat} (hnl : nl ≤ 12) (hnt : nt ≤ 20) (hl : fw_ln nl a1 a2 a3 a4) (ht : fw_tk nt a5 a6) (hR : fw_R R a7 a8) (hV : fw_Vs (fw_E 0 a1 a2 a3 a4) 0 R)
    (H : ∀ R' fg' a7' a8' a9' b, fw_I nl nt R' a1 a2 a3 a4 a5 a6 a7' a8' b → post (nI nl, nI nt, fg', a1, a2, a3, a4, a5, a6, a7', a8', a9', b)) :
    ∃ n, wX_rebuild_44 post n 0 (nI nl) (nI nt) fg a1 a2 a3 a4 a5 a6 a7 a8 a9 a10 := by
  refine pk_loop (σ := Int32 × (Nat → Int32) × (Nat → Int32) × (Nat → Int32)) (fun n i s => wX_rebuild_44 post n (nI i) (nI nl) (nI nt) s.1 a1 a2 a3 a4 a5 a6 s.2.1 s.2.2.1 s.2.2.2 a10)
    (fun i s => ∃ R', fw_R R' s.2.1 s.2.2.1 ∧ fw_Vs (fw_E i a1 a2 a3 a4) 0 R') nl 0 (fg, a7, a8, a9) (by omega) ⟨R, hR, hV⟩ ?_ ?_
  · rintro n ⟨g, b7, b8, b9⟩ ⟨R', h1, h2⟩
    dsimp only at h1 ⊢
    exact pk_le nl nl (fun _ => fw_rb111 (fw_E_ok nl a1 a2 a3 a4) hnt ht h1 h2 (fun R'' fg' a7' a8' a9' b g1 g2 g3 => H R'' _ _ _ _ b ⟨hnl, hnt, hl, ht, g1, g2, g3⟩)) (fun z => absurd z (by omega))
  · rintro n i ⟨g, b7, b8, b9⟩ hi ⟨R', h1, h2⟩ hw
    dsimp only at h1 hw ⊢
    obtain ⟨u, v, p, q, hu, hv, hp, hq, e1, e2, e3, e4⟩ := hl i hi
    have hE := fw_E_s hu hv hp hq e1 e2 e3 e4
    have oth : ∀ u' v', u' < 7 → v' < 7 → (u' = v' ∨ ¬ (u' = u ∧ v' = v)) → fw_V (fw_E (i + 1) a1 a2 a3 a4) 0 u' v' (R' (7 * u' + v')) := by
      intro u' v' hu' hv' hc
      obtain ⟨w1, w2, w3⟩ := fw_V_0.mp (h2 u' v' hu' hv')
      refine fw_V_0.mpr ⟨w1, fun s hs => (w2 s hs).imp id (fun z => ⟨z.1, (hE _ _ _).mpr (Or.inl z.2)⟩), fun w hw => w3 w (hw.imp id (fun z => ⟨z.1, ?_⟩))⟩
      rcases (hE _ _ _).mp z.2 with y | y
      · exact y
      · exfalso
        rcases hc with c | c
        · exact z.1 c
        · exact c ⟨y.1, y.2.1⟩
    have ec : (nI i).toNatClampNeg = i := nI_clamp (by omega)
    refine pk_le nl i (fun z => absurd z (by omega)) (fun _ => ⟨pk_in i 12 (by omega), pk_in i 12 (by omega), ?_⟩)
    refine pk_eq u v (fun z => nm_r (nI_1 i) (hw (g, b7, b8, b9) ⟨R', h1, fun u' v' hu' hv' => oth u' v' hu' hv' ?_⟩)) (fun z => ⟨pk_in i 12 (by omega), pk_in i 12 (by omega), pk_in i 12 (by omega), pk_in i 12 (by omega), ?_⟩) (by rw [ec]; exact e1) (by rw [ec]; exact e2)
    · by_cases c : u' = v'
      · exact Or.inl c
      · exact Or.inr (by omega)
    · obtain ⟨w1, w2, w3⟩ := fw_V_0.mp (h2 u v hu hv)
      refine fw_addSum (7 * u + v) (p, q) h1 (by omega) ?_ ?_ (by show p < 64; omega) (by show q < 64; omega) w1 (fun _ => ⟨by show p ≤ 18; omega, by show q ≤ 18; omega⟩) ?_
      · rw [ec, e1, e2]
        show nI 7 * nI u + nI v = _
        rw [pk_mul, nI_add]
      · rw [ec, e3, e4]
        show nI 64 * nI p + nI q = nI (64 * p + q)
        rw [pk_mul, nI_add]
      · intro l' fg' a7' a8' a9' ad hR'
        refine nm_r (nI_1 i) (hw (fg', a7', a8', a9') ⟨_, hR', fun u' v' hu' hv' => ?_⟩)
        by_cases c : 7 * u' + v' = 7 * u + v
        · have cu : u' = u := by omega
          have cv : v' = v := by omega
          subst cu cv
          rw [fw_up_s]
          refine fw_V_0.mpr ⟨fw_AD_srt ad w1, fun s hs => ?_, fun w hw => ?_⟩
          · rcases fw_AD_mem ad hs with y | y
            · exact (w2 s y).imp id (fun z => ⟨z.1, (hE _ _ _).mpr (Or.inl z.2)⟩)
            · exact Or.inr ⟨z, (hE _ _ _).mpr (Or.inr ⟨rfl, rfl, y.1⟩)⟩
          · rcases hw with y | y
            · exact fw_AD_old ad (w3 w (Or.inl y))
            · rcases (hE _ _ _).mp y.2 with x | x
              · exact fw_AD_old ad (w3 w (Or.inr ⟨y.1, x⟩))
              · rw [x.2.2]
                exact fw_AD_new ad
        · rw [fw_up_n _ _ c]
          exact oth u' v' hu' hv' (Or.inr (by omega))
/-- the rows at the start -/
def fw_R0 (r : Nat) : List (Nat × Nat) := if r % 8 = 0 then [(0, 0)] else []
theorem fw_R0_V (a1 a2 a3 a4 : Nat → Int32) : fw_Vs (fw_E 0 a1 a2 a3 a4) 0 fw_R0 := by
  intro i j hi hj
  have hE : ∀ w, ¬ fw_E 0 a1 a2 a3 a4 i j w := fun w h => by
    obtain ⟨_, _, _, _, k, hk, _⟩ := h
    omega
  refine fw_V_0.mpr ?_
  by_cases e : i = j
  · have : (7 * i + j) % 8 = 0 := by omega
    unfold fw_R0
    rw [if_pos this]
    refine ⟨List.pairwise_singleton _ _, fun s hs => Or.inl ⟨e, List.mem_singleton.mp hs⟩, fun w _ => ⟨(0, 0), List.mem_singleton.mpr rfl, Nat.zero_le _, Nat.zero_le _⟩⟩
  · have : ¬ (7 * i + j) % 8 = 0 := by omega
    unfold fw_R0
    rw [if_neg this]
    refine ⟨List.Pairwise.nil, fun s hs => absurd hs List.not_mem_nil, fun w hw => ?_⟩
    rcases hw with y | y
    · exact absurd y.1 e
    · exact absurd y.2 (hE w)
theorem fw_rebuild {post : St1 → Prop} {fl ft fg : Int32} {a1 a2 a3 a4 a5 a6 a7 a8 a9 a10 : Nat → Int32} (nl nt : Nat) (hnl : nl ≤ 12) (hnt : nt ≤ 20) (hl : fw_ln nl a1 a2 a3 a4) (ht : fw_tk nt a5 a6) (efl : fl = nI nl) (eft : ft = nI nt)
    (H : ∀ R' fg' a7' a8' a9' b, fw_I nl nt R' a1 a2 a3 a4 a5 a6 a7' a8' b → post (nI nl, nI nt, fg', a1, a2, a3, a4, a5, a6, a7', a8', a9', b)) :
    wpX_rebuild post (fl, ft, fg, a1, a2, a3, a4, a5, a6, a7, a8, a9, a10) := by
  subst efl eft
  unfold wpX_rebuild
  refine pk_loop (σ := (Nat → Int32) × (Nat → Int32)) (fun n i s => wX_rebuild_2 post (nI nl) (nI nt) fg n (nI i) a1 a2 a3 a4 a5 a6 s.1 s.2 a9 a10)
    (fun i s => ∀ r, r < i → s.1 r = nI (fw_R0 r).length ∧ s.2 (19 * r) = 0) 49 0 (a7, a8) (by omega) (fun r hr => absurd hr (by omega)) ?_ ?_
  · rintro n ⟨b7, b8⟩ h
    dsimp only at h ⊢
    refine pk_le 49 49 (fun _ => fw_rb44 hnl hnt hl ht (R := fw_R0) (fun r hr => ?_) (fw_R0_V a1 a2 a3 a4) H) (fun z => absurd z (by omega))
    obtain ⟨g1, g2⟩ := h r hr
    refine ⟨g1, ?_, ?_, ?_⟩
    · unfold fw_R0
      split
      · exact (by decide : 1 ≤ 19)
      · exact Nat.zero_le _
    · intro k hk
      unfold fw_R0 at hk ⊢
      split at hk
      · rename_i c
        have hk0 : k = 0 := by
          have : k < 1 := hk
          omega
        subst hk0
        rw [if_pos c]
        exact g2
      · exact absurd hk (Nat.not_lt_zero _)
    · intro e he
      unfold fw_R0 at he
      split at he
      · rw [List.mem_singleton.mp he]
        exact ⟨Nat.zero_le _, Nat.zero_le _⟩
      · exact absurd he List.not_mem_nil
  · rintro n i ⟨b7, b8⟩ hi h hw
    dsimp only at h hw ⊢
    have ec : (nI i).toNatClampNeg = i := nI_clamp (by omega)
    have e19 : (19 : Int32) * nI i = nI (19 * i) := pk_mul 19 i
    have m8 : nI i - nI i / (8 : Int32) * 8 = nI (i % 8) := by
      show nI i - nI i / nI 8 * nI 8 = _
      rw [pk_rem (by omega) (by omega) (by omega)]
    have stp : ∀ z, z = nI (fw_R0 i).length → wX_rebuild_25 post (wX_rebuild_2 post (nI nl) (nI nt) fg n) (nI i) z (nI i) (nI nl) (nI nt) fg a1 a2 a3 a4 a5 a6 b7 b8 a9 a10 := by
      intro z hz
      unfold wX_rebuild_25
      refine ⟨pk_in i 49 (by omega), nm_e ⟨pk_in (19 * i) 931 (by omega) e19, nm_e (nm_r (nI_1 i) (hw (_, _) (fun r hr => ?_)))⟩⟩
      rw [ec, e19, nI_clamp (by omega)]
      show upd b7 i z r = nI (fw_R0 r).length ∧ upd b8 (19 * i) 0 (19 * r) = 0
      by_cases e : r = i
      · subst e
        rw [pk_us, pk_us]
        exact ⟨hz, rfl⟩
      · rw [pk_un e, pk_un (by omega)]
        exact h r (by omega)
    refine pk_le 49 i (fun z => absurd z (by omega)) (fun _ => ⟨by decide, pk_eq (i % 8) 0 (fun z => stp 1 ?_) (fun z => stp 0 ?_) m8⟩)
    · unfold fw_R0
      rw [if_pos z]
      rfl
    · unfold fw_R0
      rw [if_neg z]
      rfl
end
section
/-! questions -/
/-- the first place below n at which D holds, or n -/
def fw_fst (D : Nat → Bool) : Nat → Nat
  | 0 => 0
  | n + 1 => if fw_fst D n < n then fw_fst D n else if D n = true then n else n + 1
theorem fw_fst_sp (D : Nat → Bool) (n : Nat) : fw_fst D n ≤ n ∧ (∀ b, b < fw_fst D n → D b = false) ∧ (fw_fst D n < n → D (fw_fst D n) = true) := by
  induction n with
  | zero => exact ⟨Nat.le_refl _, fun b hb => absurd hb (Nat.not_lt_zero b), fun h => absurd h (Nat.lt_irrefl 0)⟩
  | succ n ih =>
    obtain ⟨h1, h2, h3⟩ := ih
    have e : fw_fst D (n + 1) = if fw_fst D n < n then fw_fst D n else if D n = true then n else n + 1 := rfl
    by_cases c : fw_fst D n < n
    · rw [if_pos c] at e
      rw [e]
      exact ⟨by omega, h2, fun _ => h3 c⟩
    · have e1 : fw_fst D n = n := by omega
      rw [e1] at h2
      rw [if_neg c] at e
      by_cases d : D n = true
      · rw [if_pos d] at e
        rw [e]
        exact ⟨by omega, h2, fun _ => d⟩
      · rw [if_neg d] at e
        rw [e]
        refine ⟨Nat.le_refl _, fun b hb => ?_, fun h => absurd h (Nat.lt_irrefl _)⟩
        by_cases f : b = n
        · rw [f]
          cases q : D n
          · rfl
          · exact absurd q d
        · exact h2 b (by omega)
theorem fw_fst_u {D : Nat → Bool} {n r : Nat} (h1 : r ≤ n) (h2 : ∀ b, b < r → D b = false) (h3 : r < n → D r = true) : fw_fst D n = r := by
  obtain ⟨g1, g2, g3⟩ := fw_fst_sp D n
  rcases Nat.lt_trichotomy (fw_fst D n) r with z | z | z
  · have a := h2 _ z
    have b := g3 (by omega)
    rw [a] at b
    exact Bool.noConfusion b
  · exact z
  · have a := g2 _ z
    have b := h3 (by omega)
    rw [a] at b
    exact Bool.noConfusion b
/-- the least second number in the rows below a, or 16; the number of falls -/
def fw_bst (D : Nat → Nat → Bool) : Nat → Nat
  | 0 => 16
  | a + 1 => fw_fst (D a) (fw_bst D a)
def fw_fn (D : Nat → Nat → Bool) : Nat → Nat
  | 0 => 0
  | a + 1 => fw_fn D a + (if fw_bst D (a + 1) < fw_bst D a then 1 else 0)
theorem fw_bst_s (D : Nat → Nat → Bool) (a : Nat) : fw_bst D (a + 1) ≤ fw_bst D a := (fw_fst_sp (D a) (fw_bst D a)).1
theorem fw_bst_16 (D : Nat → Nat → Bool) (a : Nat) : fw_bst D a ≤ 16 := by
  induction a with
  | zero => exact Nat.le_refl _
  | succ a ih => exact Nat.le_trans (fw_bst_s D a) ih
theorem fw_fn_s (D : Nat → Nat → Bool) (a : Nat) : (fw_bst D (a + 1) < fw_bst D a ∧ fw_fn D (a + 1) = fw_fn D a + 1) ∨ (fw_bst D (a + 1) = fw_bst D a ∧ fw_fn D (a + 1) = fw_fn D a) := by
  have h := fw_bst_s D a
  have e : fw_fn D (a + 1) = fw_fn D a + (if fw_bst D (a + 1) < fw_bst D a then 1 else 0) := rfl
  by_cases c : fw_bst D (a + 1) < fw_bst D a
  · rw [if_pos c] at e
    exact Or.inl ⟨c, e⟩
  · rw [if_neg c] at e
    exact Or.inr ⟨by omega, e⟩
theorem fw_mono (D : Nat → Nat → Bool) {a c : Nat} (h : a ≤ c) : fw_fn D a ≤ fw_fn D c ∧ fw_bst D c ≤ fw_bst D a ∧ (fw_fn D a = fw_fn D c → fw_bst D c = fw_bst D a) := by
  induction c with
  | zero =>
    have : a = 0 := by omega
    subst this
    exact ⟨Nat.le_refl _, Nat.le_refl _, fun _ => rfl⟩
  | succ c ih =>
    by_cases e : a = c + 1
    · subst e
      exact ⟨Nat.le_refl _, Nat.le_refl _, fun _ => rfl⟩
    · obtain ⟨h1, h2, h3⟩ := ih (by omega)
      rcases fw_fn_s D c with ⟨z1, z2⟩ | ⟨z1, z2⟩
      · exact ⟨by omega, by omega, fun q => absurd q (by omega)⟩
      · exact ⟨by omega, by omega, fun q => by rw [z1]; exact h3 (by omega)⟩
theorem fw_fn_le (D : Nat → Nat → Bool) (a : Nat) : fw_fn D a ≤ a := by
  induction a with
  | zero => exact Nat.le_refl _
  | succ a ih =>
    rcases fw_fn_s D a with ⟨_, z⟩ | ⟨_, z⟩
    · omega
    · omega
theorem fw_bst_ex (D : Nat → Nat → Bool) {n : Nat} (h : fw_bst D n < 16) : ∃ a, a < n ∧ D a (fw_bst D n) = true := by
  induction n with
  | zero => exact absurd h (Nat.lt_irrefl 16)
  | succ n ih =>
    by_cases c : fw_bst D (n + 1) < fw_bst D n
    · exact ⟨n, by omega, (fw_fst_sp (D n) (fw_bst D n)).2.2 c⟩
    · have e : fw_bst D (n + 1) = fw_bst D n := by
        have := fw_bst_s D n
        omega
      rw [e] at h ⊢
      obtain ⟨a, ha, hd⟩ := ih h
      exact ⟨a, by omega, hd⟩
theorem fw_bst_of (D : Nat → Nat → Bool) {n a b : Nat} (ha : a < n) (hb : b < 16) (hd : D a b = true) : fw_bst D n ≤ b := by
  induction n with
  | zero => omega
  | succ n ih =>
    by_cases e : a = n
    · subst e
      obtain ⟨h1, h2, _⟩ := fw_fst_sp (D a) (fw_bst D a)
      rcases Nat.lt_or_ge b (fw_bst D (a + 1)) with z | z
      · have := h2 b z
        rw [hd] at this
        exact Bool.noConfusion this
      · exact z
    · exact Nat.le_trans (fw_bst_s D n) (ih (by omega))
/-- a mark at place m -/
def fw_D (g : Nat → Int32) (m a b : Nat) : Bool := decide (¬ g (256 * m + 16 * a + b) ≤ 0)
def fw_pb (g : Nat → Int32) (m a b : Nat) : Prop := ∃ x y, x ≤ a ∧ y ≤ b ∧ ¬ g (256 * m + 16 * x + y) ≤ 0
theorem fw_pb_iff {g : Nat → Int32} {m a b : Nat} (hb : b < 16) : fw_pb g m a b ↔ fw_bst (fw_D g m) (a + 1) ≤ b := by
  constructor
  · rintro ⟨x, y, hx, hy, h⟩
    exact Nat.le_trans (fw_bst_of (fw_D g m) (a := x) (b := y) (by omega) (by omega) (decide_eq_true h)) hy
  · intro h
    obtain ⟨x, hx, hd⟩ := fw_bst_ex (fw_D g m) (n := a + 1) (by omega)
    exact ⟨x, _, by omega, h, of_decide_eq_true hd⟩
/-! the walks -/
theorem fw_isPlace {post : Int32 → Prop} {x : Int32} (m : Nat) (hm : m < 7) (hx : x = nI m) (H : post 1) : wpX_isPlace post () x := by
  subst hx
  exact pk_lt m 0 (fun z => absurd z (by omega)) (fun _ => pk_lt 6 m (fun z => absurd z (by omega)) (fun _ => H))
theorem fw_isTime {post : Int32 → Prop} {x y : Int32} (a b : Nat) (ha : a < 16) (hb : b < 16) (hx : x = nI a) (hy : y = nI b) (H : post 1) : wpX_isTime post () x y := by
  subst hx hy
  exact pk_lt a 0 (fun z => absurd z (by omega)) (fun _ => pk_lt 15 a (fun z => absurd z (by omega)) (fun _ => pk_lt b 0 (fun z => absurd z (by omega)) (fun _ => pk_lt 15 b (fun z => absurd z (by omega)) (fun _ => H))))
theorem fw_firstMark {post : Int32 → Prop} {fl ft fg x y w : Int32} {a1 a2 a3 a4 a5 a6 a7 a8 a9 a10 : Nat → Int32} (m a l : Nat) (hm : m < 7) (ha : a < 16) (hl : l ≤ 16) (hx : x = nI m) (hy : y = nI a) (hw : w = nI l)
    (H : post (nI (fw_fst (fw_D a10 m a) l))) : wpX_firstMark post (fl, ft, fg, a1, a2, a3, a4, a5, a6, a7, a8, a9, a10) x y w := by
  subst hx hy hw
  unfold wpX_firstMark
  refine pk_loop (σ := Unit) (fun n i _ => wX_firstMark_3 post (nI m) (nI a) (nI l) fl ft fg a1 a2 a3 a4 a5 a6 a7 a8 a9 a10 n (nI i)) (fun i _ => ∀ b, b < i → fw_D a10 m a b = false) l 0 () (by omega) (fun b hb => absurd hb (by omega)) ?_ ?_
  · intro n _ h
    refine pk_le l l (fun _ => ?_) (fun z => absurd z (by omega))
    rw [fw_fst_u (Nat.le_refl l) h (fun z => absurd z (by omega))] at H
    exact H
  · intro n i _ hi h hw
    refine pk_le l i (fun z => absurd z (by omega)) (fun _ => ⟨pk_in _ 1792 (by omega) (fw_ix m a i), ?_⟩)
    rw [fw_ix, nI_clamp (by omega)]
    refine br_c (fun z => nm_r (nI_1 i) (hw () (fun b hb => ?_))) (fun z => ?_)
    · by_cases e : b = i
      · rw [e]
        exact decide_eq_false (fun q => q z)
      · exact h b (by omega)
    · rw [fw_fst_u (r := i) (by omega) h (fun _ => decide_eq_true z)] at H
      exact H
theorem fw_front {post : Int32 → Prop} {fl ft fg x : Int32} {a1 a2 a3 a4 a5 a6 a7 a8 a9 a10 : Nat → Int32} (m : Nat) (hm : m < 7) (hx : x = nI m)
    (H : post (nI (fw_fn (fw_D a10 m) 16))) : wpX_front post (fl, ft, fg, a1, a2, a3, a4, a5, a6, a7, a8, a9, a10) x := by
  subst hx
  unfold wpX_front
  refine fw_isPlace m hm rfl (br_f (by decide) ?_)
  refine pk_loop (σ := Unit) (fun n i _ => wX_front_17 post (nI m) fl ft fg a1 a2 a3 a4 a5 a6 a7 a8 a9 a10 n (nI (fw_fn (fw_D a10 m) i)) (nI (fw_bst (fw_D a10 m) i)) (nI i)) (fun _ _ => True) 16 0 () (by omega) trivial ?_ ?_
  · intro n _ _
    exact pk_le 16 16 (fun _ => H) (fun z => absurd z (by omega))
  · intro n i _ hi _ hw
    have h16 := fw_bst_16 (fw_D a10 m) i
    have hs := fw_bst_s (fw_D a10 m) i
    refine pk_le 16 i (fun z => absurd z (by omega)) (fun _ => fw_firstMark m i _ hm hi h16 rfl rfl rfl ?_)
    have t := hw () trivial
    refine pk_le (fw_bst (fw_D a10 m) i) (fw_bst (fw_D a10 m) (i + 1)) (fun z => ?_) (fun z => ?_)
    · rcases fw_fn_s (fw_D a10 m) i with ⟨y, _⟩ | ⟨_, e⟩
      · exact absurd y (by omega)
      · refine nm_r (Int32.add_zero _) (nm_r (nI_1 i) ?_)
        rw [e] at t
        exact t
    · rcases fw_fn_s (fw_D a10 m) i with ⟨_, e⟩ | ⟨y, _⟩
      · refine nm_r (nI_1 _) (nm_r (nI_1 i) ?_)
        rw [e] at t
        exact t
      · exact absurd y (by omega)
theorem fw_frontAt {post : Int32 → Prop} {fl ft fg x y : Int32} {a1 a2 a3 a4 a5 a6 a7 a8 a9 a10 : Nat → Int32} (m k : Nat) (hm : m < 7) (hk : k ≤ 16) (hx : x = nI m) (hy : y = nI k)
    (H1 : ∀ a, a < 16 → fw_fn (fw_D a10 m) a = k → fw_bst (fw_D a10 m) (a + 1) < fw_bst (fw_D a10 m) a → post (nI (16 * a + fw_bst (fw_D a10 m) (a + 1))))
    (H2 : fw_fn (fw_D a10 m) 16 ≤ k → post (-1)) : wpX_frontAt post (fl, ft, fg, a1, a2, a3, a4, a5, a6, a7, a8, a9, a10) x y := by
  subst hx hy
  unfold wpX_frontAt
  refine fw_isPlace m hm rfl (br_f (by decide) (br_t (nI_pos' (by omega)) ?_))
  refine pk_loop (σ := Unit) (fun n i _ => wX_frontAt_22 post (nI m) fl ft fg a1 a2 a3 a4 a5 a6 a7 a8 a9 a10 n (nI (k - fw_fn (fw_D a10 m) i)) (nI (fw_bst (fw_D a10 m) i)) (nI i)) (fun i _ => fw_fn (fw_D a10 m) i ≤ k) 16 0 () (by omega) (Nat.zero_le _) ?_ ?_
  · intro n _ h
    exact pk_le 16 16 (fun _ => H2 h) (fun z => absurd z (by omega))
  · intro n i _ hi h hw
    have h16 := fw_bst_16 (fw_D a10 m) i
    have hs := fw_bst_s (fw_D a10 m) i
    refine pk_le 16 i (fun z => absurd z (by omega)) (fun _ => fw_firstMark m i _ hm hi h16 rfl rfl rfl ?_)
    refine pk_le (fw_bst (fw_D a10 m) i) (fw_bst (fw_D a10 m) (i + 1)) (fun z => ?_) (fun z => ?_)
    · rcases fw_fn_s (fw_D a10 m) i with ⟨y, _⟩ | ⟨_, e⟩
      · exact absurd y (by omega)
      · have t := hw ()
        rw [e] at t
        exact nm_r (nI_1 i) (t h)
    · rcases fw_fn_s (fw_D a10 m) i with ⟨_, e⟩ | ⟨y, _⟩
      · refine pk_eq (k - fw_fn (fw_D a10 m) i) 0 (fun q => ?_) (fun q => ?_)
        · have t := H1 i hi (by omega) z
          rw [← nI_add, ← pk_mul] at t
          exact t
        · have t := hw ()
          rw [e, show k - (fw_fn (fw_D a10 m) i + 1) = k - fw_fn (fw_D a10 m) i - 1 by omega] at t
          exact nm_r (sb_m1 (by omega)) (nm_r (nI_1 i) (t (by omega)))
      · exact absurd y (by omega)
theorem fw_possible {post : Int32 → Prop} {fl ft fg x y w : Int32} {a1 a2 a3 a4 a5 a6 a7 a8 a9 a10 : Nat → Int32} (m a b : Nat) (hm : m < 7) (ha : a < 16) (hb : b < 16) (hx : x = nI m) (hy : y = nI a) (hw : w = nI b)
    (H1 : fw_pb a10 m a b → post 1) (H0 : ¬ fw_pb a10 m a b → post 0) : wpX_possible post (fl, ft, fg, a1, a2, a3, a4, a5, a6, a7, a8, a9, a10) x y w := by
  subst hx hy hw
  unfold wpX_possible
  refine fw_isPlace m hm rfl (br_f (by decide) (fw_isTime a b ha hb rfl rfl (br_f (by decide) ?_)))
  refine pk_loop (σ := Unit) (fun n i _ => wX_possible_20 post (nI m) (nI a) (nI b) fl ft fg a1 a2 a3 a4 a5 a6 a7 a8 a9 a10 n (nI i)) (fun i _ => ∀ x y, x < i → y ≤ b → a10 (256 * m + 16 * x + y) ≤ 0) (a + 1) 0 () (by omega) (fun x y hx => absurd hx (by omega)) ?_ ?_
  · intro n _ h
    refine pk_lt a (a + 1) (fun _ => H0 ?_) (fun z => absurd z (by omega))
    rintro ⟨x, y, hx, hy, hc⟩
    exact hc (h x y (by omega) hy)
  · intro n i _ hi h hw
    refine pk_lt a i (fun z => absurd z (by omega)) (fun _ => ?_)
    refine pk_loop (σ := Unit) (fun n2 j _ => wX_possible_29 post (wX_possible_20 post (nI m) (nI a) (nI b) fl ft fg a1 a2 a3 a4 a5 a6 a7 a8 a9 a10 n) (nI m) (nI a) (nI b) (nI i) fl ft fg a1 a2 a3 a4 a5 a6 a7 a8 a9 a10 n2 (nI j)) (fun j _ => ∀ y, y < j → a10 (256 * m + 16 * i + y) ≤ 0) (b + 1) 0 () (by omega) (fun y hy => absurd hy (by omega)) ?_ ?_
    · intro n2 _ g
      refine pk_lt b (b + 1) (fun _ => nm_r (nI_1 i) (hw () (fun x y hx hy => ?_))) (fun z => absurd z (by omega))
      by_cases e : x = i
      · rw [e]
        exact g y (by omega)
      · exact h x y (by omega) hy
    · intro n2 j _ hj g hw2
      refine pk_lt b j (fun z => absurd z (by omega)) (fun _ => ⟨pk_in _ 1792 (by omega) (fw_ix m i j), ?_⟩)
      rw [fw_ix, nI_clamp (by omega)]
      refine br_c (fun z => nm_r (nI_1 j) (hw2 () (fun y hy => ?_))) (fun z => H1 ⟨i, j, by omega, by omega, z⟩)
      by_cases e : y = j
      · rw [e]
        exact z
      · exact g y (by omega)
theorem fw_shortest {post : Int32 → Prop} {fl ft fg x y : Int32} {a1 a2 a3 a4 a5 a6 a7 a8 a9 a10 : Nat → Int32} (l m : Nat) (hl : l < 7) (hm : m < 7) (hx : x = nI l) (hy : y = nI m)
    (H : post (a7 (7 * l + m))) : wpX_shortest post (fl, ft, fg, a1, a2, a3, a4, a5, a6, a7, a8, a9, a10) x y := by
  subst hx hy
  unfold wpX_shortest
  have e : (7 : Int32) * nI l + nI m = nI (7 * l + m) := by
    show nI 7 * nI l + nI m = _
    rw [pk_mul, nI_add]
  refine fw_isPlace l hl rfl (br_f (by decide) (fw_isPlace m hm rfl (br_f (by decide) ⟨pk_in _ 49 (by omega) e, ?_⟩)))
  rw [e, nI_clamp (by omega)]
  exact H
theorem fw_tokenAt {post : Int32 → Prop} {fl fg x y : Int32} {a1 a2 a3 a4 a5 a6 a7 a8 a9 a10 : Nat → Int32} (nt : Nat) (hnt : nt ≤ 20)
    (H1 : ∀ k, k < nt → a5 k = x → a6 k = y → post (nI k)) (H0 : post (-1)) : wpX_tokenAt post (fl, nI nt, fg, a1, a2, a3, a4, a5, a6, a7, a8, a9, a10) x y := by
  unfold wpX_tokenAt
  refine pk_loop (σ := Unit) (fun n i _ => wX_tokenAt_2 post x y fl (nI nt) fg a1 a2 a3 a4 a5 a6 a7 a8 a9 a10 n (nI i)) (fun _ _ => True) nt 0 () (by omega) trivial ?_ ?_
  · intro n _ _
    exact pk_le nt nt (fun _ => H0) (fun z => absurd z (by omega))
  · intro n i _ hi _ hw
    refine pk_le nt i (fun z => absurd z (by omega)) (fun _ => ⟨pk_in i 20 (by omega), ?_⟩)
    rw [nI_clamp (by omega)]
    refine br_c (fun z => ⟨pk_in i 20 (by omega), br_c (fun z2 => H1 i hi z z2) (fun _ => nm_r (nI_1 i) (hw () trivial))⟩) (fun _ => nm_r (nI_1 i) (hw () trivial))
theorem fw_reaches {post : Int32 → Prop} {fl ft fg x y p2 p3 : Int32} {a1 a2 a3 a4 a5 a6 a7 a8 a9 a10 : Nat → Int32} {R : Nat → List (Nat × Nat)} (k p m : Nat) (hR : fw_R R a7 a8) (hk : k < 20) (hp : p < 7) (hm : m < 7) (e5 : a5 k = nI p) (hx : x = nI k) (hy : y = nI m)
    (H1 : post 1) (H0 : post 0) : wpX_reaches post (fl, ft, fg, a1, a2, a3, a4, a5, a6, a7, a8, a9, a10) x y p2 p3 := by
  subst hx hy
  unfold wpX_reaches
  have ec : (nI k).toNatClampNeg = k := nI_clamp (by omega)
  have e1 : (7 : Int32) * a5 (nI k).toNatClampNeg + nI m = nI (7 * p + m) := by
    rw [ec, e5]
    show nI 7 * nI p + nI m = _
    rw [pk_mul, nI_add]
  obtain ⟨q1, q2, q3, q4⟩ := hR (7 * p + m) (by omega)
  refine ⟨pk_in k 20 hk, nm_r e1 ⟨pk_in k 20 hk, nm_e ⟨pk_in k 20 hk, nm_e (nm_r (pk_mul 19 (7 * p + m)) ?_)⟩⟩⟩
  have e0 : (19 : Int32) * nI (7 * p + m) + a7 (nI (7 * p + m)).toNatClampNeg = nI (19 * (7 * p + m) + (R (7 * p + m)).length) := by
    rw [nI_clamp (by omega), q1]
    show nI 19 * nI (7 * p + m) + _ = _
    rw [pk_mul, nI_add]
  refine pk_loop (σ := Unit) (fun n i _ => wX_reaches_46 post (nI (7 * p + m)) _ _ fl ft fg a1 a2 a3 a4 a5 a6 a7 a8 a9 a10 n (nI i)) (fun _ _ => True) (19 * (7 * p + m) + (R (7 * p + m)).length) (19 * (7 * p + m)) () (by omega) trivial ?_ ?_
  · intro n _ _
    exact ⟨pk_in (7 * p + m) 49 (by omega), br_t (by rw [e0]; exact nI_le (Nat.le_refl _) (by omega)) H0⟩
  · intro n i _ hi _ hw
    refine ⟨pk_in (7 * p + m) 49 (by omega), br_f (by rw [e0]; exact nI_ge hi (by omega)) ⟨pk_in i 931 (by omega), br_c (fun _ => nm_r (nI_1 i) (hw () trivial)) (fun _ => ⟨pk_in i 931 (by omega), br_c (fun _ => nm_r (nI_1 i) (hw () trivial)) (fun _ => H1)⟩)⟩⟩
theorem fw_ready {post : Int32 → Prop} {fl fg x y w : Int32} {a1 a2 a3 a4 a5 a6 a7 a8 a9 a10 : Nat → Int32} {R : Nat → List (Nat × Nat)} (nt m a b : Nat) (hnt : nt ≤ 20) (hR : fw_R R a7 a8) (ht : fw_tk nt a5 a6) (hm : m < 7) (ha : a < 16) (hb : b < 16) (hx : x = nI m) (hy : y = nI a) (hw : w = nI b)
    (H1 : (∃ k, k < nt ∧ a5 k = nI m ∧ a6 k = nI (16 * a + b)) → post 1) (H0 : post 0) : wpX_ready post (fl, nI nt, fg, a1, a2, a3, a4, a5, a6, a7, a8, a9, a10) x y w := by
  subst hx hy hw
  unfold wpX_ready
  have e16 : (16 : Int32) * nI a + nI b = nI (16 * a + b) := by
    show nI 16 * nI a + nI b = _
    rw [pk_mul, nI_add]
  refine fw_isPlace m hm rfl (br_f (by decide) (fw_isTime a b ha hb rfl rfl (br_f (by decide) ?_)))
  refine pk_loop (σ := Nat) (fun n i o => wX_ready_23 post (nI m) (nI a) (nI b) fl (nI nt) fg a1 a2 a3 a4 a5 a6 a7 a8 a9 a10 n (nI o) (nI i)) (fun i o => o ≤ i ∧ (0 < o → ∃ k, k < nt ∧ a5 k = nI m ∧ a6 k = nI (16 * a + b))) nt 0 0 (by omega) ⟨Nat.le_refl _, fun z => absurd z (by omega)⟩ ?_ ?_
  · intro n o h
    exact pk_le nt nt (fun _ => pk_le o 0 (fun _ => H0) (fun z => H1 (h.2 z)) rfl rfl (by omega)) (fun z => absurd z (by omega))
  · intro n i o hi h hw
    obtain ⟨p, t, hp, htt, e5, e6⟩ := ht i hi
    have ec : (nI i).toNatClampNeg = i := nI_clamp (by omega)
    have no : wX_ready_63 post (wX_ready_23 post (nI m) (nI a) (nI b) fl (nI nt) fg a1 a2 a3 a4 a5 a6 a7 a8 a9 a10 n) (nI m) (nI a) (nI b) (nI o) (nI i) fl (nI nt) fg a1 a2 a3 a4 a5 a6 a7 a8 a9 a10 := by
      unfold wX_ready_63 wX_ready_64 wX_ready_78
      refine br_t rfl (nm_r (Int32.add_zero _) (br_t rfl ?_))
      refine fw_reaches (R := R) i p m hR (by omega) hp hm e5 rfl rfl (br_f (by decide) H0) (br_t rfl (nm_r (nI_1 i) (hw o ⟨by omega, h.2⟩)))
    refine pk_le nt i (fun z => absurd z (by omega)) (fun _ => ⟨pk_in i 20 (by omega), ?_⟩)
    rw [ec, e16]
    refine br_c (fun z => ⟨pk_in i 20 (by omega), br_c (fun z2 => ?_) (fun _ => no)⟩) (fun _ => no)
    unfold wX_ready_64 wX_ready_78
    exact br_f (by decide) (nm_r (nI_1 o) (br_f (by decide) (nm_r (nI_1 i) (hw (o + 1) ⟨by omega, fun _ => ⟨i, hi, z, z2⟩⟩))))
end
section
/-! the marks and the tokens; the law's two helpers -/
theorem fw_tc_le {R : Nat → List (Nat × Nat)} {a5 a6 a7 a8 : Nat → Int32} {nt x k : Nat} (hR : fw_R R a7 a8) (ht : fw_tk nt a5 a6) (hk : k < nt) (hx : x < 1792) : fw_tc R a5 a6 x k ≤ 19 := by
  obtain ⟨p, t, hp, htt, e5, e6⟩ := ht k hk
  unfold fw_tc fw_cx
  rw [e5, nI_clamp (by omega)]
  exact Nat.le_trans (fw_ct_le _ _ _ _) (hR (7 * p + x / 256) (by omega)).2.1
theorem fw_M_bd {R : Nat → List (Nat × Nat)} {a5 a6 a7 a8 : Nat → Int32} {nt x : Nat} (hnt : nt ≤ 20) (hR : fw_R R a7 a8) (ht : fw_tk nt a5 a6) (hx : x < 1792) : fw_sm nt (fw_tc R a5 a6 x) ≤ 380 := by
  have h := fw_sm_c (f := fw_tc R a5 a6 x) (c := 19) (n := nt) (fun k hk => fw_tc_le hR ht hk hx)
  omega
theorem fw_mark {nl nt : Nat} {R : Nat → List (Nat × Nat)} {a1 a2 a3 a4 a5 a6 a7 a8 a10 : Nat → Int32} (hI : fw_I nl nt R a1 a2 a3 a4 a5 a6 a7 a8 a10) {m a b : Nat} (hm : m < 7) (ha : a < 16) (hb : b < 16) :
    ¬ a10 (256 * m + 16 * a + b) ≤ 0 ↔ ∃ k p t s, k < nt ∧ p < 7 ∧ t < 256 ∧ a5 k = nI p ∧ a6 k = nI t ∧ s ∈ R (7 * p + m) ∧ t / 16 + s.1 = a ∧ t % 16 + s.2 = b := by
  obtain ⟨i1, i2, i3, i4, i5, i6, i7⟩ := hI
  have hx : 256 * m + 16 * a + b < 1792 := by omega
  have d1 : (256 * m + 16 * a + b) / 256 = m := by omega
  have d2 : (256 * m + 16 * a + b) / 16 % 16 = a := by omega
  have d3 : (256 * m + 16 * a + b) % 16 = b := by omega
  have hbd := fw_M_bd i2 i5 i4 hx
  rw [i7 _ hx]
  constructor
  · intro h
    have hp : 0 < fw_sm nt (fw_tc R a5 a6 (256 * m + 16 * a + b)) := by
      rcases Nat.eq_zero_or_pos (fw_sm nt (fw_tc R a5 a6 (256 * m + 16 * a + b))) with z | z
      · rw [z] at h
        exact absurd (nI_le (Nat.le_refl 0) (by omega)) h
      · exact z
    obtain ⟨k, hk, hf⟩ := fw_sm_pos hp
    obtain ⟨p, t, hp, htt, e5, e6⟩ := i4 k hk
    unfold fw_tc fw_cx at hf
    rw [e5, e6, nI_clamp (show p < 2 ^ 31 by omega), nI_clamp (show t < 2 ^ 31 by omega), d1, d2, d3] at hf
    obtain ⟨s, hs, h1, h2⟩ := fw_ct_pos.mp hf
    exact ⟨k, p, t, s, hk, hp, htt, e5, e6, hs, h1, h2⟩
  · rintro ⟨k, p, t, s, hk, hp, htt, e5, e6, hs, h1, h2⟩
    have hf : 0 < fw_tc R a5 a6 (256 * m + 16 * a + b) k := by
      unfold fw_tc fw_cx
      rw [e5, e6, nI_clamp (show p < 2 ^ 31 by omega), nI_clamp (show t < 2 ^ 31 by omega), d1, d2, d3]
      exact fw_ct_pos.mpr ⟨s, hs, h1, h2⟩
    exact nI_nle (Nat.lt_of_lt_of_le hf (fw_sm_in hk)) (by omega)
theorem fw_own {nl nt : Nat} {R : Nat → List (Nat × Nat)} {a1 a2 a3 a4 a5 a6 a7 a8 a10 : Nat → Int32} (hI : fw_I nl nt R a1 a2 a3 a4 a5 a6 a7 a8 a10) {m a b : Nat} (hm : m < 7) (ha : a < 16) (hb : b < 16) (h : ∃ k, k < nt ∧ a5 k = nI m ∧ a6 k = nI (16 * a + b)) : fw_pb a10 m a b := by
  obtain ⟨k, hk, e5, e6⟩ := h
  refine ⟨a, b, Nat.le_refl _, Nat.le_refl _, (fw_mark hI hm ha hb).mpr ⟨k, m, 16 * a + b, (0, 0), hk, hm, by omega, e5, e6, ?_, ?_, ?_⟩⟩
  · rw [fw_V_diag (hI.2.2.2.2.2.1 m m hm hm)]
    exact List.mem_singleton.mpr rfl
  · show (16 * a + b) / 16 + 0 = a
    omega
  · show (16 * a + b) % 16 + 0 = b
    omega
theorem fw_lastA {c a : Nat} (h : c ≤ a) (ha : a < 100) : ¬ nI a ≤ nI c - 1 := by
  intro z
  have z' := Int32.le_iff_toInt_le.mp z
  have e : (nI c - 1).toInt = (c : Int) - 1 := pk_sub_toInt (a := c) (b := 1) (by omega) (by omega)
  rw [e, nI_toInt (by omega)] at z'
  omega
theorem fw_Lfront {post : Int32 → Prop} {fl fg x y w : Int32} {a1 a2 a3 a4 a5 a6 a7 a8 a9 a10 : Nat → Int32} {R : Nat → List (Nat × Nat)} {nl nt : Nat} (m a b : Nat) (hI : fw_I nl nt R a1 a2 a3 a4 a5 a6 a7 a8 a10) (hm : m < 7) (ha : a < 16) (hb : b < 16) (hx : x = nI m) (hy : y = nI a) (hw : w = nI b)
    (H : post 1) : wpL_front post (fl, nI nt, fg, a1, a2, a3, a4, a5, a6, a7, a8, a9, a10) x y w := by
  subst hx hy hw
  unfold wpL_front
  refine fw_front m hm rfl ?_
  have hN := fw_fn_le (fw_D a10 m) 16
  have pbi := fw_pb_iff (g := a10) (m := m) (a := a) hb
  have key : ∃ n, wL_front_20 post (nI m) (nI a) (nI b) (nI (fw_fn (fw_D a10 m) 16)) fl (nI nt) fg a1 a2 a3 a4 a5 a6 a7 a8 a9 a10 n (nI 0 - 1) (nI (fw_bst (fw_D a10 m) 0)) (fw_fl (decide (fw_bst (fw_D a10 m) (min 0 (a + 1)) ≤ b))) (nI 0) := by
    refine pk_loop (σ := Nat) (fun n i c => wL_front_20 post (nI m) (nI a) (nI b) (nI (fw_fn (fw_D a10 m) 16)) fl (nI nt) fg a1 a2 a3 a4 a5 a6 a7 a8 a9 a10 n (nI c - 1) (nI (fw_bst (fw_D a10 m) c)) (fw_fl (decide (fw_bst (fw_D a10 m) (min c (a + 1)) ≤ b))) (nI i))
      (fun i c => c ≤ 16 ∧ fw_fn (fw_D a10 m) c = i) (fw_fn (fw_D a10 m) 16) 0 0 (by omega) ⟨by omega, rfl⟩ ?_ ?_
    · intro n c hc
      obtain ⟨hc1, hc2⟩ := hc
      have eqv : fw_bst (fw_D a10 m) (min c (a + 1)) = fw_bst (fw_D a10 m) (a + 1) := by
        rcases Nat.lt_or_ge c (a + 1) with z | z
        · rw [Nat.min_eq_left (by omega)]
          have h1 := fw_mono (fw_D a10 m) (a := c) (c := a + 1) (by omega)
          have h2 := fw_mono (fw_D a10 m) (a := a + 1) (c := 16) (by omega)
          exact (h1.2.2 (by omega)).symm
        · rw [Nat.min_eq_right z]
      refine pk_le _ _ (fun _ => ?_) (fun z => absurd z (Nat.lt_irrefl _)) rfl rfl
      rw [eqv]
      have atEnd : ∀ P : Int32 → Prop, P (-1) → wpX_frontAt P (fl, nI nt, fg, a1, a2, a3, a4, a5, a6, a7, a8, a9, a10) (nI m) (nI (fw_fn (fw_D a10 m) 16)) := by
        intro P hP
        refine fw_frontAt m (fw_fn (fw_D a10 m) 16) hm hN rfl rfl (fun a' ha' e1 e2 => ?_) (fun _ => hP)
        have h1 := fw_mono (fw_D a10 m) (a := a' + 1) (c := 16) (by omega)
        rcases fw_fn_s (fw_D a10 m) a' with ⟨_, e⟩ | ⟨e, _⟩
        · exact absurd h1.1 (by omega)
        · exact absurd e (by omega)
      refine fw_possible m a b hm ha hb rfl rfl rfl (fun hp => ?_) (fun hp => ?_)
      · rw [decide_eq_true (pbi.mp hp)]
        refine atEnd _ (br_t rfl (br_f (by decide) ?_))
        unfold wL_front_148
        exact br_t rfl (fw_ready (R := R) nt m a b hI.2.1 hI.2.2.2.2.1 hI.2.2.2.1 hm ha hb rfl rfl rfl (fun _ => br_f (by decide) H) (br_f (by decide) H))
      · rw [decide_eq_false (fun z => hp (pbi.mpr z))]
        refine atEnd _ (br_t rfl (br_t rfl ?_))
        unfold wL_front_148
        exact br_t rfl (fw_ready (R := R) nt m a b hI.2.1 hI.2.2.2.2.1 hI.2.2.2.1 hm ha hb rfl rfl rfl (fun z => absurd (fw_own hI hm ha hb z) hp) (br_f (by decide) H))
    · intro n i c hi hc hw
      obtain ⟨hc1, hc2⟩ := hc
      refine pk_le _ _ (fun z => absurd z (by omega)) (fun _ => ?_) rfl rfl
      refine fw_frontAt m i hm (by omega) rfl rfl (fun a' ha' e1 e2 => ?_) (fun z => absurd z (by omega))
      have h16 := fw_bst_16 (fw_D a10 m) a'
      have ea : fw_fn (fw_D a10 m) (a' + 1) = i + 1 := by
        rcases fw_fn_s (fw_D a10 m) a' with ⟨_, e⟩ | ⟨e, _⟩
        · omega
        · exact absurd e (by omega)
      have hca : c ≤ a' := by
        rcases Nat.lt_or_ge a' c with z | z
        · have h1 := fw_mono (fw_D a10 m) (a := a' + 1) (c := c) (by omega)
          exact absurd h1.1 (by omega)
        · exact z
      have hcb : fw_bst (fw_D a10 m) a' = fw_bst (fw_D a10 m) c := (fw_mono (fw_D a10 m) hca).2.2 (by omega)
      have E1 : nI (16 * a' + fw_bst (fw_D a10 m) (a' + 1)) >>> ((4 : Int32) &&& 31) = nI a' := by
        rw [fw_sh4 (by omega)]
        congr 1
        omega
      have E2 : nI (16 * a' + fw_bst (fw_D a10 m) (a' + 1)) &&& 15 = nI (fw_bst (fw_D a10 m) (a' + 1)) := by
        rw [fw_an15 (by omega)]
        congr 1
        omega
      have t := hw (a' + 1) ⟨by omega, ea⟩
      rw [nI_pred] at t
      refine nm_r E1 (nm_r E2 ?_)
      refine pk_lt (16 * a' + fw_bst (fw_D a10 m) (a' + 1)) 0 (fun z => absurd z (by omega)) (fun _ => ?_)
      refine pk_lt 255 (16 * a' + fw_bst (fw_D a10 m) (a' + 1)) (fun z => absurd z (by omega)) (fun _ => ?_)
      refine br_f (fw_lastA hca (by omega)) ?_
      refine pk_lt (fw_bst (fw_D a10 m) (a' + 1)) (fw_bst (fw_D a10 m) c) (fun _ => ?_) (fun z => absurd z (by omega)) rfl rfl (by omega) (by omega)
      have un : ∀ d : Bool, decide (fw_bst (fw_D a10 m) (min (a' + 1) (a + 1)) ≤ b) = d → wL_front_20 post (nI m) (nI a) (nI b) (nI (fw_fn (fw_D a10 m) 16)) fl (nI nt) fg a1 a2 a3 a4 a5 a6 a7 a8 a9 a10 n (nI a') (nI (fw_bst (fw_D a10 m) (a' + 1))) (fw_fl d) (nI (i + 1)) := by
        intro d hd
        rw [← hd]
        exact t
      by_cases hu : fw_bst (fw_D a10 m) (min c (a + 1)) ≤ b
      · rw [decide_eq_true hu]
        refine br_f (by decide) ?_
        unfold wL_front_95
        refine nm_r (nI_1 i) (un true (decide_eq_true ?_))
        exact Nat.le_trans (fw_mono (fw_D a10 m) (a := min c (a + 1)) (c := min (a' + 1) (a + 1)) (by omega)).2.1 hu
      · rw [decide_eq_false hu]
        refine br_t rfl ?_
        refine pk_lt a a' (fun z => ?_) (fun z => ?_)
        · unfold wL_front_99
          refine nm_r (nI_1 i) (un false (decide_eq_false (fun q => hu ?_)))
          rw [Nat.min_eq_right (by omega)] at q
          rcases Nat.lt_or_ge c (a + 1) with y | y
          · rw [Nat.min_eq_left (by omega)]
            have h1 := fw_mono (fw_D a10 m) (a := c) (c := a + 1) (by omega)
            have h2 := fw_mono (fw_D a10 m) (a := a + 1) (c := a') (by omega)
            rw [h1.2.2 (by omega)] at q
            exact q
          · rw [Nat.min_eq_right y]
            exact q
        · have em : min (a' + 1) (a + 1) = a' + 1 := Nat.min_eq_left (by omega)
          refine pk_lt b (fw_bst (fw_D a10 m) (a' + 1)) (fun y => ?_) (fun y => ?_)
          · unfold wL_front_99
            refine nm_r (nI_1 i) (un false (decide_eq_false (fun q => ?_)))
            rw [em] at q
            omega
          · unfold wL_front_95
            refine nm_r (nI_1 i) (un true (decide_eq_true ?_))
            rw [em]
            exact y
  obtain ⟨n, hn⟩ := key
  rw [decide_eq_false (show ¬ fw_bst (fw_D a10 m) (min 0 (a + 1)) ≤ b by
    rw [Nat.zero_min]
    show ¬ 16 ≤ b
    omega)] at hn
  exact ⟨n, hn⟩
/-- how many times are possible at a place -/
def fw_pn (g : Nat → Int32) (m t : Nat) : Nat := if fw_bst (fw_D g m) (t / 16 + 1) ≤ t % 16 then 1 else 0
theorem fw_Lposs {post : Int32 → Prop} {fl ft fg x : Int32} {a1 a2 a3 a4 a5 a6 a7 a8 a9 a10 : Nat → Int32} (m : Nat) (hm : m < 7) (hx : x = nI m)
    (H : post (nI (fw_sm 256 (fw_pn a10 m)))) : wpL_possible post (fl, ft, fg, a1, a2, a3, a4, a5, a6, a7, a8, a9, a10) x := by
  subst hx
  unfold wpL_possible
  refine pk_loop (σ := Unit) (fun n i _ => wL_possible_4 post (nI m) fl ft fg a1 a2 a3 a4 a5 a6 a7 a8 a9 a10 n (nI (fw_sm i (fw_pn a10 m))) (nI i)) (fun _ _ => True) 256 0 () (by omega) trivial ?_ ?_
  · intro n _ _
    exact pk_le 256 256 (fun _ => H) (fun z => absurd z (by omega))
  · intro n i _ hi _ hw
    have t := hw () trivial
    have e : fw_sm (i + 1) (fw_pn a10 m) = fw_sm i (fw_pn a10 m) + fw_pn a10 m i := rfl
    have pbi := fw_pb_iff (g := a10) (m := m) (a := i / 16) (b := i % 16) (by omega)
    refine pk_le 256 i (fun z => absurd z (by omega)) (fun _ => ?_)
    refine fw_possible m (i / 16) (i % 16) hm (by omega) (by omega) rfl (fw_sh4 hi) (fw_an15 hi) (fun hp => nm_r (nI_1 _) (nm_r (nI_1 i) ?_)) (fun hp => nm_r (Int32.add_zero _) (nm_r (nI_1 i) ?_))
    · rw [e, show fw_pn a10 m i = 1 from if_pos (pbi.mp hp)] at t
      exact t
    · rw [e, show fw_pn a10 m i = 0 from if_neg (fun z => hp (pbi.mpr z))] at t
      exact t
theorem fw_pn_le (g : Nat → Int32) (m : Nat) : fw_sm 256 (fw_pn g m) ≤ 256 := by
  have := fw_sm_c (f := fw_pn g m) (c := 1) (n := 256) (fun k _ => by
    unfold fw_pn
    split
    · exact Nat.le_refl _
    · exact Nat.zero_le _)
  omega
theorem fw_pn_mono {g g' : Nat → Int32} {m : Nat} (h : ∀ a b, a < 16 → b < 16 → fw_pb g' m a b → fw_pb g m a b) : fw_sm 256 (fw_pn g' m) ≤ fw_sm 256 (fw_pn g m) := by
  refine fw_sm_le (fun t ht => ?_)
  unfold fw_pn
  by_cases c : fw_bst (fw_D g' m) (t / 16 + 1) ≤ t % 16
  · rw [if_pos c, if_pos ((fw_pb_iff (by omega)).mp (h _ _ (by omega) (by omega) ((fw_pb_iff (by omega)).mpr c)))]
    exact Nat.le_refl _
  · rw [if_neg c]
    exact Nat.zero_le _
end
section
/-! moves -/
theorem fw_ln_add {n : Nat} {a1 a2 a3 a4 : Nat → Int32} {u v p q : Nat} (h : fw_ln n a1 a2 a3 a4) (hu : u < 7) (hv : v < 7) (hp : p ≤ 3) (hq : q ≤ 3) : fw_ln (n + 1) (upd a1 n (nI u)) (upd a2 n (nI v)) (upd a3 n (nI p)) (upd a4 n (nI q)) := by
  intro k hk
  by_cases e : k = n
  · subst e
    rw [pk_us, pk_us, pk_us, pk_us]
    exact ⟨u, v, p, q, hu, hv, hp, hq, rfl, rfl, rfl, rfl⟩
  · rw [pk_un e, pk_un e, pk_un e, pk_un e]
    exact h k (by omega)
theorem fw_link {post : Int32 → St1 → Prop} {fg x0 x1 x2 x3 : Int32} {a1 a2 a3 a4 a5 a6 a7 a8 a9 a10 : Nat → Int32} {R : Nat → List (Nat × Nat)} {nl nt : Nat} (u v p q : Nat) (hI : fw_I nl nt R a1 a2 a3 a4 a5 a6 a7 a8 a10) (hu : u < 7) (hv : v < 7) (hp : p ≤ 3) (hq : q ≤ 3) (e0 : x0 = nI u) (e1 : x1 = nI v) (e2 : x2 = nI p) (e3 : x3 = nI q)
    (H0 : nl = 12 → post (-1) (nI nl, nI nt, fg, a1, a2, a3, a4, a5, a6, a7, a8, a9, a10))
    (H1 : nl < 12 → ∀ R' fg' a1' a2' a3' a4' a7' a8' a9' b, fw_I (nl + 1) nt R' a1' a2' a3' a4' a5 a6 a7' a8' b → post (nI (nl + 1)) (nI (nl + 1), nI nt, fg', a1', a2', a3', a4', a5, a6, a7', a8', a9', b)) :
    wpX_link post (nI nl, nI nt, fg, a1, a2, a3, a4, a5, a6, a7, a8, a9, a10) x0 x1 x2 x3 := by
  subst e0 e1 e2 e3
  obtain ⟨i1, i2, i3, i4, i5, i6, i7⟩ := hI
  unfold wpX_link
  refine fw_isPlace u hu rfl (br_f (by decide) (fw_isPlace v hv rfl (br_f (by decide) ?_)))
  refine pk_lt p 0 (fun z => absurd z (by omega)) (fun _ => pk_lt 3 p (fun z => absurd z (by omega)) (fun _ => pk_lt q 0 (fun z => absurd z (by omega)) (fun _ => pk_lt 3 q (fun z => absurd z (by omega)) (fun _ => ?_))))
  refine pk_lt nl 12 (fun z => ?_) (fun z => H0 (by omega))
  refine ⟨pk_in nl 12 z, nm_e ⟨pk_in nl 12 z, nm_e ⟨pk_in nl 12 z, nm_e ⟨pk_in nl 12 z, nm_e (nm_r (nI_1 nl) ?_)⟩⟩⟩⟩
  rw [nI_clamp (show nl < 2 ^ 31 by omega)]
  exact fw_rebuild (nl + 1) nt (by omega) i2 (fw_ln_add i3 hu hv hp hq) i4 rfl rfl (fun R' fg' a7' a8' a9' b h => H1 z R' fg' _ _ _ _ a7' a8' a9' b h)
theorem fw_ln_cp {n i j : Nat} {a1 a2 a3 a4 : Nat → Int32} (h : fw_ln n a1 a2 a3 a4) (hj : j < n) : fw_ln n (upd a1 i (a1 j)) (upd a2 i (a2 j)) (upd a3 i (a3 j)) (upd a4 i (a4 j)) := by
  intro k hk
  by_cases e : k = i
  · subst e
    rw [pk_us, pk_us, pk_us, pk_us]
    exact h j hj
  · rw [pk_un e, pk_un e, pk_un e, pk_un e]
    exact h k hk
theorem fw_unlink {post : Int32 → St1 → Prop} {fg x0 : Int32} {a1 a2 a3 a4 a5 a6 a7 a8 a9 a10 : Nat → Int32} {R : Nat → List (Nat × Nat)} {nl nt : Nat} (j : Nat) (hI : fw_I nl nt R a1 a2 a3 a4 a5 a6 a7 a8 a10) (hj : j < nl) (e0 : x0 = nI j)
    (H1 : ∀ R' fg' a1' a2' a3' a4' a7' a8' a9' b, fw_I (nl - 1) nt R' a1' a2' a3' a4' a5 a6 a7' a8' b → post (nI (nl - 1)) (nI (nl - 1), nI nt, fg', a1', a2', a3', a4', a5, a6, a7', a8', a9', b)) :
    wpX_unlink post (nI nl, nI nt, fg, a1, a2, a3, a4, a5, a6, a7, a8, a9, a10) x0 := by
  subst e0
  obtain ⟨i1, i2, i3, i4, i5, i6, i7⟩ := hI
  unfold wpX_unlink
  refine pk_lt j 0 (fun z => absurd z (by omega)) (fun _ => pk_lt j nl (fun _ => nm_r (pk_sub (a := nl) (b := 1) (by omega)) ?_) (fun z => absurd z (by omega)))
  refine pk_loop (σ := (Nat → Int32) × (Nat → Int32) × (Nat → Int32) × (Nat → Int32)) (fun n i s => wX_unlink_26 post (nI (nl - 1)) (nI nt) fg n (nI i) s.1 s.2.1 s.2.2.1 s.2.2.2 a5 a6 a7 a8 a9 a10) (fun _ s => fw_ln nl s.1 s.2.1 s.2.2.1 s.2.2.2) (nl - 1) j (a1, a2, a3, a4) (by omega) i3 ?_ ?_
  · rintro n ⟨b1, b2, b3, b4⟩ h
    dsimp only at h ⊢
    refine pk_le (nl - 1) (nl - 1) (fun _ => ?_) (fun z => absurd z (by omega))
    exact fw_rebuild (nl - 1) nt (by omega) i2 (fun k hk => h k (by omega)) i4 rfl rfl (fun R' fg' a7' a8' a9' b g => H1 R' fg' _ _ _ _ a7' a8' a9' b g)
  · rintro n i ⟨b1, b2, b3, b4⟩ hi h hw
    dsimp only at h hw ⊢
    refine pk_le (nl - 1) i (fun z => absurd z (by omega)) (fun _ => ?_)
    refine ⟨pk_in (i + 1) 12 (by omega) (nI_1 i), pk_in i 12 (by omega), nm_e ⟨pk_in (i + 1) 12 (by omega) (nI_1 i), pk_in i 12 (by omega), nm_e ⟨pk_in (i + 1) 12 (by omega) (nI_1 i), pk_in i 12 (by omega), nm_e ⟨pk_in (i + 1) 12 (by omega) (nI_1 i), pk_in i 12 (by omega), nm_e (nm_r (nI_1 i) (hw (_, _, _, _) ?_))⟩⟩⟩⟩
    rw [nI_1, nI_clamp (show i < 2 ^ 31 by omega), nI_clamp (show i + 1 < 2 ^ 31 by omega)]
    exact fw_ln_cp h (by omega)
theorem fw_tc_of {R : Nat → List (Nat × Nat)} {a5 a6 : Nat → Int32} {x k p t : Nat} (hp : p < 7) (ht : t < 256) (e5 : a5 k = nI p) (e6 : a6 k = nI t) : fw_tc R a5 a6 x k = fw_cx R p t x := by
  unfold fw_tc
  rw [e5, e6, nI_clamp (show p < 2 ^ 31 by omega), nI_clamp (show t < 2 ^ 31 by omega)]
theorem fw_tc_un {R : Nat → List (Nat × Nat)} {a5 a6 : Nat → Int32} {x k j : Nat} {v w : Int32} (h : k ≠ j) : fw_tc R (upd a5 j v) (upd a6 j w) x k = fw_tc R a5 a6 x k := by
  unfold fw_tc
  rw [pk_un h, pk_un h]
theorem fw_put {post : Int32 → St1 → Prop} {fg x0 x1 x2 : Int32} {a1 a2 a3 a4 a5 a6 a7 a8 a9 a10 : Nat → Int32} {R : Nat → List (Nat × Nat)} {nl nt : Nat} (p a b : Nat) (hI : fw_I nl nt R a1 a2 a3 a4 a5 a6 a7 a8 a10) (hp : p < 7) (ha : a < 16) (hb : b < 16) (e0 : x0 = nI p) (e1 : x1 = nI a) (e2 : x2 = nI b)
    (H0 : nt = 20 → post (-1) (nI nl, nI nt, fg, a1, a2, a3, a4, a5, a6, a7, a8, a9, a10))
    (H1 : nt < 20 → ∀ a5' a6' c, fw_I nl (nt + 1) R a1 a2 a3 a4 a5' a6' a7 a8 c → post (nI (nt + 1)) (nI nl, nI (nt + 1), fg, a1, a2, a3, a4, a5', a6', a7, a8, a9, c)) :
    wpX_put post (nI nl, nI nt, fg, a1, a2, a3, a4, a5, a6, a7, a8, a9, a10) x0 x1 x2 := by
  subst e0 e1 e2
  obtain ⟨i1, i2, i3, i4, i5, i6, i7⟩ := hI
  unfold wpX_put
  have e16 : (16 : Int32) * nI a + nI b = nI (16 * a + b) := by
    show nI 16 * nI a + nI b = _
    rw [pk_mul, nI_add]
  refine fw_isPlace p hp rfl (br_f (by decide) (fw_isTime a b ha hb rfl rfl (br_f (by decide) ?_)))
  refine pk_lt nt 20 (fun z => ?_) (fun z => H0 (by omega))
  refine ⟨pk_in nt 20 z, nm_e ⟨pk_in nt 20 z, nm_e (nm_r (nI_1 nt) ?_)⟩⟩
  rw [nI_clamp (show nt < 2 ^ 31 by omega), e16]
  refine fw_count (R := R) p (16 * a + b) i5 hp (by omega) rfl rfl (fun c hc => H1 z _ _ c ⟨i1, by omega, i3, fun k hk => ?_, i5, i6, fun x hx => ?_⟩)
  · by_cases e : k = nt
    · subst e
      rw [pk_us, pk_us]
      exact ⟨p, 16 * a + b, hp, by omega, rfl, rfl⟩
    · rw [pk_un e, pk_un e]
      exact i4 k (by omega)
  · rw [hc x hx, i7 x hx, Int32.one_mul, nI_add]
    congr 1
    show _ = fw_sm nt (fw_tc R (upd a5 nt (nI p)) (upd a6 nt (nI (16 * a + b))) x) + fw_tc R (upd a5 nt (nI p)) (upd a6 nt (nI (16 * a + b))) x nt
    rw [fw_tc_of hp (show 16 * a + b < 256 by omega) pk_us pk_us, fw_sm_eq (fun k hk => fw_tc_un (by omega))]
theorem fw_less {A B C : Nat} (h : B + C = A) : nI A + (-1) * nI C = nI B := by
  rw [← h, ← nI_add]
  grind
theorem fw_swap {A B C D : Nat} (h : B + C = A + D) : nI A + (-1) * nI C + 1 * nI D = nI B := by
  have e : nI B + nI C = nI A + nI D := by rw [nI_add, nI_add, h]
  grind
theorem fw_take {post : Int32 → St1 → Prop} {fg x0 x1 x2 : Int32} {a1 a2 a3 a4 a5 a6 a7 a8 a9 a10 : Nat → Int32} {R : Nat → List (Nat × Nat)} {nl nt : Nat} (p a b : Nat) (hI : fw_I nl nt R a1 a2 a3 a4 a5 a6 a7 a8 a10) (hp : p < 7) (ha : a < 16) (hb : b < 16) (e0 : x0 = nI p) (e1 : x1 = nI a) (e2 : x2 = nI b)
    (H0 : post (-1) (nI nl, nI nt, fg, a1, a2, a3, a4, a5, a6, a7, a8, a9, a10))
    (H1 : 0 < nt → ∀ a5' a6' c, fw_I nl (nt - 1) R a1 a2 a3 a4 a5' a6' a7 a8 c → post (nI (nt - 1)) (nI nl, nI (nt - 1), fg, a1, a2, a3, a4, a5', a6', a7, a8, a9, c)) :
    wpX_take post (nI nl, nI nt, fg, a1, a2, a3, a4, a5, a6, a7, a8, a9, a10) x0 x1 x2 := by
  subst e0 e1 e2
  obtain ⟨i1, i2, i3, i4, i5, i6, i7⟩ := hI
  unfold wpX_take
  have e16 : (16 : Int32) * nI a + nI b = nI (16 * a + b) := by
    show nI 16 * nI a + nI b = _
    rw [pk_mul, nI_add]
  refine fw_isPlace p hp rfl (br_f (by decide) (fw_isTime a b ha hb rfl rfl (br_f (by decide) ?_)))
  refine fw_tokenAt nt i2 (fun k hk e5 e6 => ?_) ?_
  · rw [e16] at e6
    unfold wX_take_30
    refine br_t (nI_pos' (by omega)) (nm_r (pk_sub (a := nt) (b := 1) (by omega)) ⟨pk_in (nt - 1) 20 (by omega), pk_in k 20 (by omega), nm_e ⟨pk_in (nt - 1) 20 (by omega), pk_in k 20 (by omega), nm_e ?_⟩⟩)
    rw [nI_clamp (show k < 2 ^ 31 by omega), nI_clamp (show nt - 1 < 2 ^ 31 by omega), e16]
    refine fw_count (R := R) p (16 * a + b) i5 hp (by omega) rfl rfl (fun c hc => H1 (by omega) _ _ c ⟨i1, by omega, i3, fun j hj => ?_, i5, i6, fun x hx => ?_⟩)
    · by_cases e : j = k
      · subst e
        rw [pk_us, pk_us]
        exact i4 (nt - 1) (by omega)
      · rw [pk_un e, pk_un e]
        exact i4 j (by omega)
    · rw [hc x hx, i7 x hx]
      refine fw_less ?_
      rw [← fw_tc_of (R := R) (x := x) hp (show 16 * a + b < 256 by omega) e5 e6]
      obtain ⟨n, rfl⟩ : ∃ n, nt = n + 1 := ⟨nt - 1, by omega⟩
      rw [Nat.add_sub_cancel]
      show _ = fw_sm n (fw_tc R a5 a6 x) + fw_tc R a5 a6 x n
      by_cases e : k = n
      · subst e
        rw [fw_sm_eq (fun j hj => fw_tc_un (by omega))]
      · rw [fw_sm_ch (f := fw_tc R a5 a6 x) (k := k) (by omega) (fun j _ hj => fw_tc_un hj)]
        congr 1
        unfold fw_tc
        rw [pk_us, pk_us]
  · unfold wX_take_30
    exact br_f (by decide) H0
theorem fw_pass {post : Int32 → St1 → Prop} {fg x0 x1 x2 : Int32} {a1 a2 a3 a4 a5 a6 a7 a8 a9 a10 : Nat → Int32} {R : Nat → List (Nat × Nat)} {nl nt : Nat} (j a b : Nat) (hI : fw_I nl nt R a1 a2 a3 a4 a5 a6 a7 a8 a10) (hj : j < 12) (ha : a < 16) (hb : b < 16) (e0 : x0 = nI j) (e1 : x1 = nI a) (e2 : x2 = nI b)
    (H0 : ∀ r, r = -1 ∨ r = -2 → post r (nI nl, nI nt, fg, a1, a2, a3, a4, a5, a6, a7, a8, a9, a10))
    (H1 : ∀ a5' a6' c, fw_I nl nt R a1 a2 a3 a4 a5' a6' a7 a8 c → (∀ m x y, m < 7 → x < 16 → y < 16 → fw_pb c m x y → fw_pb a10 m x y) → post 0 (nI nl, nI nt, fg, a1, a2, a3, a4, a5', a6', a7, a8, a9, c)) :
    wpX_pass post (nI nl, nI nt, fg, a1, a2, a3, a4, a5, a6, a7, a8, a9, a10) x0 x1 x2 := by
  subst e0 e1 e2
  have hI' := hI
  obtain ⟨i1, i2, i3, i4, i5, i6, i7⟩ := hI
  unfold wpX_pass
  have e16 : (16 : Int32) * nI a + nI b = nI (16 * a + b) := by
    show nI 16 * nI a + nI b = _
    rw [pk_mul, nI_add]
  have ec : (nI j).toNatClampNeg = j := nI_clamp (by omega)
  refine pk_lt j 0 (fun z => absurd z (by omega)) (fun _ => pk_le nl j (fun _ => H0 _ (Or.inl rfl)) (fun hjl => fw_isTime a b ha hb rfl rfl (br_f (by decide) ⟨pk_in j 12 hj, ?_⟩)))
  obtain ⟨u, v, p, q, hu, hv, hp, hq, l1, l2, l3, l4⟩ := i3 j hjl
  refine fw_tokenAt nt i2 (fun k hk e5 e6 => ?_) (br_f (by decide) (H0 _ (Or.inl rfl)))
  rw [ec, l1] at e5
  rw [e16] at e6
  have ek : (nI k).toNatClampNeg = k := nI_clamp (by omega)
  refine br_t (nI_pos' (by omega)) ⟨pk_in j 12 hj, ?_⟩
  refine pk_lt 15 (a + p) (fun _ => H0 _ (Or.inr rfl)) (fun hap => ⟨pk_in j 12 hj, ?_⟩) rfl (by rw [ec, l3, nI_add])
  refine pk_le (b + q) 15 (fun hbq => ⟨pk_in k 20 (by omega), pk_in k 20 (by omega), ?_⟩) (fun _ => H0 _ (Or.inr rfl)) (by rw [ec, l4, nI_add]) rfl
  refine fw_count (R := R) u (16 * a + b) i5 hu (by omega) (by rw [ek]; exact e5) (by rw [ek]; exact e6) (fun c hc => ?_)
  refine ⟨pk_in j 12 hj, pk_in k 20 (by omega), nm_e ⟨pk_in k 20 (by omega), pk_in j 12 hj, pk_in j 12 hj, pk_in k 20 (by omega), nm_e ⟨pk_in k 20 (by omega), pk_in k 20 (by omega), ?_⟩⟩⟩
  rw [ek, ec, l2, l3, l4, e6]
  have et : nI (16 * a + b) + ((16 : Int32) * nI p + nI q) = nI (16 * (a + p) + (b + q)) := by
    show nI (16 * a + b) + (nI 16 * nI p + nI q) = _
    rw [pk_mul, nI_add, nI_add]
    congr 1
    omega
  rw [et, pk_us, pk_us]
  refine fw_count (R := R) v (16 * (a + p) + (b + q)) i5 hv (by omega) rfl rfl (fun c2 hc2 => ?_)
  have hN : fw_I nl nt R a1 a2 a3 a4 (upd a5 k (nI v)) (upd a6 k (nI (16 * (a + p) + (b + q)))) a7 a8 c2 := by
    refine ⟨i1, i2, i3, fun i hi => ?_, i5, i6, fun x hx => ?_⟩
    · by_cases e : i = k
      · subst e
        rw [pk_us, pk_us]
        exact ⟨v, 16 * (a + p) + (b + q), hv, by omega, rfl, rfl⟩
      · rw [pk_un e, pk_un e]
        exact i4 i hi
    · rw [hc2 x hx, hc x hx, i7 x hx]
      refine fw_swap ?_
      rw [← fw_tc_of (R := R) (x := x) hu (show 16 * a + b < 256 by omega) e5 e6, fw_sm_ch (f := fw_tc R a5 a6 x) (k := k) hk (fun i _ hi => fw_tc_un hi)]
      congr 1
      exact fw_tc_of hv (by omega) pk_us pk_us
  refine H1 _ _ c2 hN (fun m x y hm hx hy hpb => ?_)
  obtain ⟨x', y', hx', hy', hmk⟩ := hpb
  obtain ⟨k', p', t', s, hk', hp', ht', g5, g6, hs, s1, s2⟩ := (fw_mark hN hm (show x' < 16 by omega) (show y' < 16 by omega)).mp hmk
  by_cases e : k' = k
  · subst e
    rw [pk_us] at g5 g6
    have f5 := (nI_eq (by omega) (by omega)).mp g5
    have f6 := (nI_eq (by omega) (by omega)).mp g6
    subst f5 f6
    have hE : fw_E nl a1 a2 a3 a4 u v (p, q) := ⟨hu, hv, hp, hq, j, hjl, l1, l2, l3, l4⟩
    obtain ⟨s', hs', hle1, hle2⟩ := fw_V_tri hE hv (i6 v m hv hm) (i6 u m hu hm) hs
    have w1 : s'.1 ≤ p + s.1 := hle1
    have w2 : s'.2 ≤ q + s.2 := hle2
    have d1 : (16 * (a + p) + (b + q)) / 16 = a + p := by omega
    have d2 : (16 * (a + p) + (b + q)) % 16 = b + q := by omega
    rw [d1] at s1
    rw [d2] at s2
    refine ⟨a + s'.1, b + s'.2, by omega, by omega, (fw_mark hI' hm (by omega) (by omega)).mpr ⟨k', u, 16 * a + b, s', hk', hu, by omega, e5, e6, hs', by omega, by omega⟩⟩
  · rw [pk_un e] at g5 g6
    exact ⟨x', y', hx', hy', (fw_mark hI' hm (by omega) (by omega)).mpr ⟨k', p', t', s, hk', hp', ht', g5, g6, hs, s1, s2⟩⟩
end
section
/-! the law's turn -/
abbrev fw_TJ : Type := Int32 → Int32 → Int32 → Int32 → Int32 → Int32 → (Nat → Int32) → (Nat → Int32) → (Nat → Int32) → (Nat → Int32) → (Nat → Int32) → (Nat → Int32) → (Nat → Int32) → (Nat → Int32) → (Nat → Int32) → (Nat → Int32) → Prop
/-- the next turn is met by every state that keeps the invariant -/
def fw_HK (J : fw_TJ) (i : Nat) : Prop := ∀ nl nt R fg a1 a2 a3 a4 a5 a6 a7 a8 a9 a10, fw_I nl nt R a1 a2 a3 a4 a5 a6 a7 a8 a10 → J (nI nl) (nI nt) (nI (i + 4)) (nI nl) (nI nt) fg a1 a2 a3 a4 a5 a6 a7 a8 a9 a10
theorem fw_395 {post : Int32 → Prop} {L : Nat} {xs : Nat → Int32} {J : fw_TJ} {x2 x3 x6 x7 x8 x9 fg : Int32} {kc ks : Nat} {a1 a2 a3 a4 a5 a6 a7 a8 a9 a10 : Nat → Int32} {R : Nat → List (Nat × Nat)} {nl nt i l m a b : Nat} (HK : fw_HK J i) (hI : fw_I nl nt R a1 a2 a3 a4 a5 a6 a7 a8 a10) (hl : l < 7) (hm : m < 7) (ha : a < 16) (hb : b < 16) (e2 : x2 = nI nl) (e3 : x3 = nI nt) (e6 : x6 = nI l) (e7 : x7 = nI m) (e8 : x8 = nI a) (e9 : x9 = nI b) :
    wL_law_395 post L xs J x2 x3 (nI i) x6 x7 x8 x9 kc ks (nI nl) (nI nt) fg a1 a2 a3 a4 a5 a6 a7 a8 a9 a10 := by
  subst e2 e3 e6 e7 e8 e9
  unfold wL_law_395
  have d1 : a7 (7 * l + l) = 1 := by
    rw [(hI.2.2.2.2.1 (7 * l + l) (by omega)).1, fw_V_diag (hI.2.2.2.2.2.1 l l hl hl)]
    rfl
  have d2 : 0 ≤ a7 (7 * l + m) := by
    obtain ⟨q1, q2, _⟩ := hI.2.2.2.2.1 (7 * l + m) (by omega)
    rw [q1]
    exact nI_pos' (by omega)
  exact fw_Lfront l a b hI hl ha hb rfl rfl rfl (br_f (by decide) (fw_Lfront m b a hI hm hb ha rfl rfl rfl (br_f (by decide) (fw_shortest l l hl hl rfl rfl (br_t d1 (fw_shortest l m hl hm rfl rfl (br_t d2 (nm_r (nI_add i 4) (HK nl nt R fg a1 a2 a3 a4 a5 a6 a7 a8 a9 a10 hI)))))))))
theorem fw_357 {post : Int32 → Prop} {L : Nat} {xs : Nat → Int32} {J : fw_TJ} {x11 x12 z0 z1 z2 fg : Int32} {kc ks : Nat} {a1 a2 a3 a4 a5 a6 a7 a8 a9 a10 : Nat → Int32} {R : Nat → List (Nat × Nat)} {nl nt i l m a b j a' b' : Nat} (HK : fw_HK J i) (hI : fw_I nl nt R a1 a2 a3 a4 a5 a6 a7 a8 a10) (hl : l < 7) (hm : m < 7) (ha : a < 16) (hb : b < 16) (hj : j < 12) (ha' : a' < 16) (hb' : b' < 16) (e11 : x11 = nI (fw_sm 256 (fw_pn a10 m))) (e12 : (x12 = 1 ∧ fw_pb a10 m b a) ∨ (x12 = 0 ∧ ¬ fw_pb a10 m b a)) (ez2 : z2 = nI j) (ez1 : z1 = nI a') (ez0 : z0 = nI b') :
    wL_law_357 post L xs J (nI nl) (nI nt) (nI i) (nI l) (nI m) (nI a) (nI b) x11 x12 z0 z1 z2 kc ks (nI nl) (nI nt) fg a1 a2 a3 a4 a5 a6 a7 a8 a9 a10 := by
  have after : ∀ a5' a6' c, fw_I nl nt R a1 a2 a3 a4 a5' a6' a7 a8 c → (∀ m x y, m < 7 → x < 16 → y < 16 → fw_pb c m x y → fw_pb a10 m x y) →
      wpL_possible (fun r_111 => (((x11 < r_111 → (post 0)) ∧ (¬ x11 < r_111 → (wpX_possible (fun r_113 => (((r_113 ≤ x12 → (wL_law_395 post L xs J (nI nl) (nI nt) (nI i) (nI l) (nI m) (nI a) (nI b) kc ks (nI nl) (nI nt) fg a1 a2 a3 a4 a5' a6' a7 a8 a9 c)) ∧ (¬ r_113 ≤ x12 → (post 0))))) (nI nl, nI nt, fg, a1, a2, a3, a4, a5', a6', a7, a8, a9, c) (nI m) (nI b) (nI a)))))) (nI nl, nI nt, fg, a1, a2, a3, a4, a5', a6', a7, a8, a9, c) (nI m) := by
    intro a5' a6' c hN hmo
    have bd := fw_pn_le a10 m
    refine fw_Lposs m hm rfl (br_f ?_ ?_)
    · rw [e11]
      exact nI_nlt (fw_pn_mono (fun x y hx hy h => hmo m x y hm hx hy h)) (by omega)
    · refine fw_possible m b a hm hb ha rfl rfl rfl (fun hp => br_t ?_ (fw_395 HK hN hl hm ha hb rfl rfl rfl rfl rfl rfl)) (fun hp => br_t ?_ (fw_395 HK hN hl hm ha hb rfl rfl rfl rfl rfl rfl))
      · rcases e12 with ⟨e, _⟩ | ⟨_, e⟩
        · rw [e]
          decide
        · exact absurd (hmo m b a hm hb ha hp) e
      · rcases e12 with ⟨e, _⟩ | ⟨e, _⟩
        · rw [e]
          decide
        · rw [e]
          decide
  unfold wL_law_357
  refine fw_pass j a' b' hI hj ha' hb' ez2 ez1 ez0 (fun r hr => ?_) (fun a5' a6' c hN hmo => ?_)
  · refine br_f ?_ (after a5 a6 a10 hI (fun _ _ _ _ _ _ h => h))
    rcases hr with e | e
    · rw [e]
      decide
    · rw [e]
      decide
  · exact br_f (by decide) (after a5' a6' c hN hmo)
theorem fw_and {x m : Int32} (k : Nat) (hm : m.toBitVec.toNat = 2 ^ k - 1) : ∃ j, j < 2 ^ k ∧ x &&& m = nI j := pk_andE x k hm
theorem fw_271 {post : Int32 → Prop} {L : Nat} {xs : Nat → Int32} {J : fw_TJ} {x5 fg : Int32} {kc ks : Nat} {a1 a2 a3 a4 a5 a6 a7 a8 a9 a10 : Nat → Int32} {R : Nat → List (Nat × Nat)} {nl nt i l m a b : Nat} (HK : fw_HK J i) (hI : fw_I nl nt R a1 a2 a3 a4 a5 a6 a7 a8 a10) (hl : l < 7) (hm : m < 7) (ha : a < 16) (hb : b < 16) (hL : L ≤ 260) (hi : i + 4 ≤ L) :
    wL_law_271 post L xs J (nI nl) (nI nt) (nI i) x5 (nI l) (nI m) (nI a) (nI b) kc ks (nI nl) (nI nt) fg a1 a2 a3 a4 a5 a6 a7 a8 a9 a10 := by
  have go := fw_395 (post := post) (L := L) (xs := xs) (kc := kc) (ks := ks) (fg := fg) (a9 := a9) HK hI hl hm ha hb rfl rfl rfl rfl rfl rfl
  unfold wL_law_271
  refine br_c (fun _ => go) (fun _ => br_c (fun _ => go) (fun _ => ?_))
  obtain ⟨w, hw, ew⟩ := fw_and (x := (xs (nI i + 2).toNatClampNeg) >>> ((8 : Int32) &&& 31)) (m := 255) 8 (by decide)
  have e12 : ((xs (nI i + 2).toNatClampNeg) >>> ((8 : Int32) &&& 31) &&& 255) - ((xs (nI i + 2).toNatClampNeg) >>> ((8 : Int32) &&& 31) &&& 255) / 12 * 12 = nI (w % 12) := by
    rw [ew]
    exact pk_rem (a := w) (d := 12) (by omega) (by omega) (by omega)
  have fin : ∀ r12, ((r12 = 1 ∧ fw_pb a10 m b a) ∨ (r12 = 0 ∧ ¬ fw_pb a10 m b a)) → ∀ r, (r = -1 ∨ ∃ a' b', a' < 16 ∧ b' < 16 ∧ r = nI (16 * a' + b')) →
      (vp_in (nI i + 2) L ∧ (¬ (12 : Int32) = 0 ∧ (((0 ≤ r → (wL_law_342 post L xs J (nI nl) (nI nt) (nI i) (nI l) (nI m) (nI a) (nI b) r (nI (fw_sm 256 (fw_pn a10 m))) r12 (r >>> ((4 : Int32) &&& 31)) ((((xs (nI i + 2).toNatClampNeg) >>> ((8 : Int32) &&& 31)) &&& 255) - (((xs (nI i + 2).toNatClampNeg) >>> ((8 : Int32) &&& 31)) &&& 255) / 12 * 12) kc ks (nI nl) (nI nt) fg a1 a2 a3 a4 a5 a6 a7 a8 a9 a10)) ∧ (¬ 0 ≤ r → (wL_law_342 post L xs J (nI nl) (nI nt) (nI i) (nI l) (nI m) (nI a) (nI b) r (nI (fw_sm 256 (fw_pn a10 m))) r12 (nI a) ((((xs (nI i + 2).toNatClampNeg) >>> ((8 : Int32) &&& 31)) &&& 255) - (((xs (nI i + 2).toNatClampNeg) >>> ((8 : Int32) &&& 31)) &&& 255) / 12 * 12) kc ks (nI nl) (nI nt) fg a1 a2 a3 a4 a5 a6 a7 a8 a9 a10)))))) := by
    intro r12 h12 r hr
    refine ⟨pk_in (i + 2) L (by omega) (nI_add i 2), by decide, ?_⟩
    rw [e12]
    rcases hr with e | ⟨a', b', ha', hb', e⟩
    · rw [e]
      refine br_f (by decide) ?_
      unfold wL_law_342
      exact br_f (by decide) (fw_357 (j := w % 12) (a' := a) (b' := b) HK hI hl hm ha hb (by omega) ha hb rfl h12 rfl rfl rfl)
    · rw [e]
      refine br_t (nI_pos' (by omega)) ?_
      unfold wL_law_342
      refine br_t (nI_pos' (by omega)) (fw_357 (j := w % 12) (a' := a') (b' := b') HK hI hl hm ha hb (by omega) ha' hb' rfl h12 rfl ?_ ?_)
      · rw [fw_sh4 (by omega)]
        congr 1
        omega
      · rw [fw_an15 (by omega)]
        congr 1
        omega
  refine fw_frontAt l 0 hl (by omega) rfl rfl (fun a' ha' _ hlt => ?_) (fun _ => ?_)
  · have h16 := fw_bst_16 (fw_D a10 l) a'
    refine fw_Lposs m hm rfl ?_
    refine fw_possible m b a hm hb ha rfl rfl rfl (fun hp => ?_) (fun hp => ?_)
    · exact fin 1 (Or.inl ⟨rfl, hp⟩) _ (Or.inr ⟨a', _, ha', by omega, rfl⟩)
    · exact fin 0 (Or.inr ⟨rfl, hp⟩) _ (Or.inr ⟨a', _, ha', by omega, rfl⟩)
  · refine fw_Lposs m hm rfl ?_
    refine fw_possible m b a hm hb ha rfl rfl rfl (fun hp => ?_) (fun hp => ?_)
    · exact fin 1 (Or.inl ⟨rfl, hp⟩) _ (Or.inl rfl)
    · exact fin 0 (Or.inr ⟨rfl, hp⟩) _ (Or.inl rfl)
end
section
/-! the law's loop -/
theorem fw_130 {post : Int32 → Prop} {L : Nat} {xs : Nat → Int32} {J : fw_TJ} {fg r : Int32} {kc ks : Nat} {a1 a2 a3 a4 a5 a6 a7 a8 a9 a10 : Nat → Int32} {R : Nat → List (Nat × Nat)} {o nl nt i l m a b : Nat} (HK : fw_HK J i) (hI : fw_I nl nt R a1 a2 a3 a4 a5 a6 a7 a8 a10) (hl : l < 7) (hm : m < 7) (ha : a < 16) (hb : b < 16)
    (ho : (o = 12 ∧ nl = 12 ∧ r = -1) ∨ (o < 12 ∧ nl = o + 1 ∧ r = nI (o + 1))) :
    ((nI o = 12 → (wL_law_130 post L xs J (nI o) (nI nt) (nI i) (nI l) (nI m) (nI a) (nI b) (-1) r kc ks (nI nl) (nI nt) fg a1 a2 a3 a4 a5 a6 a7 a8 a9 a10)) ∧ (¬ nI o = 12 → (wL_law_130 post L xs J (nI o) (nI nt) (nI i) (nI l) (nI m) (nI a) (nI b) (nI o + 1) r kc ks (nI nl) (nI nt) fg a1 a2 a3 a4 a5 a6 a7 a8 a9 a10))) := by
  rcases ho with ⟨e1, e2, e3⟩ | ⟨e1, e2, e3⟩
  · subst e1 e2 e3
    refine br_t rfl ?_
    unfold wL_law_130
    refine br_t rfl (br_t rfl ?_)
    unfold wL_law_149
    exact fw_395 HK hI hl hm ha hb rfl rfl rfl rfl rfl rfl
  · subst e2 e3
    have hn : ¬ nI o = 12 := fun z => absurd ((nI_eq (b := 12) (by omega) (by omega)).mp z) (by omega)
    refine br_f hn ?_
    unfold wL_law_130
    refine br_t (nI_1 o).symm (br_f hn ?_)
    unfold wL_law_149
    exact fw_395 HK hI hl hm ha hb (nI_1 o) rfl rfl rfl rfl rfl
theorem fw_183 {post : Int32 → Prop} {L : Nat} {xs : Nat → Int32} {J : fw_TJ} {fg r : Int32} {kc ks : Nat} {a1 a2 a3 a4 a5 a6 a7 a8 a9 a10 : Nat → Int32} {R : Nat → List (Nat × Nat)} {o nl nt i l m a b : Nat} (HK : fw_HK J i) (hI : fw_I nl nt R a1 a2 a3 a4 a5 a6 a7 a8 a10) (hl : l < 7) (hm : m < 7) (ha : a < 16) (hb : b < 16)
    (ho : (o = 20 ∧ nt = 20 ∧ r = -1) ∨ (o < 20 ∧ nt = o + 1 ∧ r = nI (o + 1))) :
    ((nI o = 20 → (wL_law_183 post L xs J (nI nl) (nI o) (nI i) (nI l) (nI m) (nI a) (nI b) (-1) r kc ks (nI nl) (nI nt) fg a1 a2 a3 a4 a5 a6 a7 a8 a9 a10)) ∧ (¬ nI o = 20 → (wL_law_183 post L xs J (nI nl) (nI o) (nI i) (nI l) (nI m) (nI a) (nI b) (nI o + 1) r kc ks (nI nl) (nI nt) fg a1 a2 a3 a4 a5 a6 a7 a8 a9 a10))) := by
  rcases ho with ⟨e1, e2, e3⟩ | ⟨e1, e2, e3⟩
  · subst e1 e2 e3
    refine br_t rfl ?_
    unfold wL_law_183
    refine br_t rfl (br_t rfl ?_)
    unfold wL_law_202
    exact fw_395 HK hI hl hm ha hb rfl rfl rfl rfl rfl rfl
  · subst e2 e3
    have hn : ¬ nI o = 20 := fun z => absurd ((nI_eq (b := 20) (by omega) (by omega)).mp z) (by omega)
    refine br_f hn ?_
    unfold wL_law_183
    refine br_t (nI_1 o).symm (br_f hn ?_)
    unfold wL_law_202
    exact fw_395 HK hI hl hm ha hb rfl (nI_1 o) rfl rfl rfl rfl
theorem fw_turn {post : Int32 → Prop} {L : Nat} {xs : Nat → Int32} {kc ks n : Nat} {fg : Int32} {a1 a2 a3 a4 a5 a6 a7 a8 a9 a10 : Nat → Int32} {R : Nat → List (Nat × Nat)} {nl nt i : Nat} (hp : post 1) (hL : L ≤ 260) (hi : i ≤ 160) (HK : i < 160 → fw_HK (wL_law_15 post L xs kc ks n) i) (hI : fw_I nl nt R a1 a2 a3 a4 a5 a6 a7 a8 a10) :
    wL_law_15 post L xs kc ks (n + 1) (nI nl) (nI nt) (nI i) (nI nl) (nI nt) fg a1 a2 a3 a4 a5 a6 a7 a8 a9 a10 := by
  refine pk_lt L (i + 4) (fun _ => hp) (fun hiL => pk_le 160 i (fun _ => hp) (fun hi2 => ?_)) rfl (nI_add i 4)
  have HK' := HK hi2
  obtain ⟨k, hk, ek⟩ := fw_and (x := xs (nI i).toNatClampNeg) (m := 15) 4 (by decide)
  obtain ⟨w1, hw1, ew1⟩ := fw_and (x := xs (nI i + 1).toNatClampNeg) (m := 255) 8 (by decide)
  obtain ⟨w2, hw2, ew2⟩ := fw_and (x := xs (nI i + 2).toNatClampNeg) (m := 255) 8 (by decide)
  obtain ⟨a, ha, ea⟩ := fw_and (x := xs (nI i + 3).toNatClampNeg) (m := 15) 4 (by decide)
  obtain ⟨b, hb, eb⟩ := fw_and (x := xs (nI i + 3).toNatClampNeg >>> ((4 : Int32) &&& 31)) (m := 15) 4 (by decide)
  have E6 : (xs (nI i + 1).toNatClampNeg &&& 255) - (xs (nI i + 1).toNatClampNeg &&& 255) / 7 * 7 = nI (w1 % 7) := by
    rw [ew1]
    exact pk_rem (a := w1) (d := 7) (by omega) (by omega) (by omega)
  have E7 : (xs (nI i + 2).toNatClampNeg &&& 255) - (xs (nI i + 2).toNatClampNeg &&& 255) / 7 * 7 = nI (w2 % 7) := by
    rw [ew2]
    exact pk_rem (a := w2) (d := 7) (by omega) (by omega) (by omega)
  have hl : w1 % 7 < 7 := by omega
  have hm : w2 % 7 < 7 := by omega
  have ha' : a < 16 := ha
  have hb' : b < 16 := hb
  have i0 : vp_in (nI i) L := pk_in i L (by omega)
  have i1 : vp_in (nI i + 1) L := pk_in (i + 1) L (by omega) (nI_add i 1)
  have i2 : vp_in (nI i + 2) L := pk_in (i + 2) L (by omega) (nI_add i 2)
  have i3 : vp_in (nI i + 3) L := pk_in (i + 3) L (by omega) (nI_add i 3)
  refine ⟨i0, nm_r ek ⟨i1, by decide, nm_r E6 ⟨i2, by decide, nm_r E7 ⟨i3, nm_r ea ⟨i3, nm_r eb ?_⟩⟩⟩⟩⟩
  refine pk_lt 4 k (fun h4 => ?_) (fun h4 => ?_)
  · refine pk_lt 9 k (fun h9 => ?_) (fun h9 => ?_)
    · refine pk_eq k 10 (fun h10 => ?_) (fun h10 => ?_)
      · refine fw_take (w1 % 7) a b hI hl ha' hb' rfl rfl rfl (br_t (by decide) ?_) (fun hnt a5' a6' c hN => br_f (nI_pos (by have := hI.2.1; omega)) ?_)
        · unfold wL_law_236
          exact fw_395 HK' hI hl hm ha' hb' rfl rfl rfl rfl rfl rfl
        · unfold wL_law_236
          exact fw_395 HK' hN hl hm ha' hb' rfl rfl rfl rfl rfl rfl
      · refine pk_eq k 11 (fun h11 => ?_) (fun h11 => ?_)
        · have h12 := hI.1
          refine pk_le nl 0 (fun _ => fw_271 HK' hI hl hm ha' hb' hL hiL) (fun hnl => ⟨i2, nI_ne0 hnl (by omega), ?_⟩)
          refine fw_unlink (w2 % nl) hI (Nat.mod_lt _ hnl) ?_ (fun R' fg' a1' a2' a3' a4' a7' a8' a9' c hN => ?_)
          · rw [ew2]
            exact pk_rem (by omega) hnl (by omega)
          · exact fw_395 HK' hN hl hm ha' hb' rfl rfl rfl rfl rfl rfl
        · exact fw_271 HK' hI hl hm ha' hb' hL hiL
    · exact fw_put (w1 % 7) a b hI hl ha' hb' rfl rfl rfl (fun h20 => fw_183 HK' hI hl hm ha' hb' (Or.inl ⟨h20, h20, rfl⟩)) (fun h20 a5' a6' c hN => fw_183 HK' hN hl hm ha' hb' (Or.inr ⟨h20, rfl, rfl⟩))
  · obtain ⟨p, hp3, ep⟩ := fw_and (x := nI a) (m := 3) 2 (by decide)
    obtain ⟨q, hq3, eq⟩ := fw_and (x := nI b) (m := 3) 2 (by decide)
    exact fw_link (w1 % 7) (w2 % 7) p q hI hl hm (by omega) (by omega) rfl rfl ep eq (fun h12 => fw_130 HK' hI hl hm ha' hb' (Or.inl ⟨h12, h12, rfl⟩)) (fun h12 R' fg' a1' a2' a3' a4' a7' a8' a9' c hN => fw_130 HK' hN hl hm ha' hb' (Or.inr ⟨h12, rfl, rfl⟩))
theorem fw_law {post : Int32 → Prop} {L : Nat} {xs : Nat → Int32} {kc ks : Nat} {fg : Int32} {a1 a2 a3 a4 a5 a6 a7 a8 a9 a10 : Nat → Int32} {R : Nat → List (Nat × Nat)} {nl nt : Nat} (hp : post 1) (hL : L ≤ 260) (hI : fw_I nl nt R a1 a2 a3 a4 a5 a6 a7 a8 a10) :
    ∃ n, wL_law_15 post L xs kc ks n (nI nl) (nI nt) 0 (nI nl) (nI nt) fg a1 a2 a3 a4 a5 a6 a7 a8 a9 a10 := by
  refine pk_loop (σ := Nat × Nat × Int32 × (Nat → Int32) × (Nat → Int32) × (Nat → Int32) × (Nat → Int32) × (Nat → Int32) × (Nat → Int32) × (Nat → Int32) × (Nat → Int32) × (Nat → Int32) × (Nat → Int32))
    (fun n c s => wL_law_15 post L xs kc ks n (nI s.1) (nI s.2.1) (nI (4 * c)) (nI s.1) (nI s.2.1) s.2.2.1 s.2.2.2.1 s.2.2.2.2.1 s.2.2.2.2.2.1 s.2.2.2.2.2.2.1 s.2.2.2.2.2.2.2.1 s.2.2.2.2.2.2.2.2.1 s.2.2.2.2.2.2.2.2.2.1 s.2.2.2.2.2.2.2.2.2.2.1 s.2.2.2.2.2.2.2.2.2.2.2.1 s.2.2.2.2.2.2.2.2.2.2.2.2)
    (fun _ s => ∃ R, fw_I s.1 s.2.1 R s.2.2.2.1 s.2.2.2.2.1 s.2.2.2.2.2.1 s.2.2.2.2.2.2.1 s.2.2.2.2.2.2.2.1 s.2.2.2.2.2.2.2.2.1 s.2.2.2.2.2.2.2.2.2.1 s.2.2.2.2.2.2.2.2.2.2.1 s.2.2.2.2.2.2.2.2.2.2.2.2) 40 0 (nl, nt, fg, a1, a2, a3, a4, a5, a6, a7, a8, a9, a10) (by omega) ⟨R, hI⟩ ?_ ?_
  · rintro n ⟨ml, mt, g, b1, b2, b3, b4, b5, b6, b7, b8, b9, b10⟩ ⟨R', h⟩
    exact fw_turn hp hL (by omega) (fun z => absurd z (by omega)) h
  · rintro n c ⟨ml, mt, g, b1, b2, b3, b4, b5, b6, b7, b8, b9, b10⟩ hc ⟨R', h⟩ hw
    refine fw_turn hp hL (by omega) (fun _ nl' nt' R'' g' c1 c2 c3 c4 c5 c6 c7 c8 c9 c10 h' => ?_) h
    exact hw (nl', nt', g', c1, c2, c3, c4, c5, c6, c7, c8, c9, c10) ⟨R'', h'⟩
theorem i_vc (xs : Nat → Int32) (L : Nat) (hL : L ≤ 260) : wpL_law (fun r => r = 1) L xs := by
  unfold wpL_law
  refine ⟨10, 2900, by omega, by omega, ?_⟩
  unfold wpX_init
  refine ⟨by omega, by omega, by omega, by omega, by omega, by omega, by omega, by omega, by omega, by omega, by omega, by omega, by omega, by omega, by omega, by omega, by omega, by omega, by omega, by omega, ?_⟩
  exact fw_rebuild 0 0 (by omega) (by omega) (fun k hk => absurd hk (by omega)) (fun k hk => absurd hk (by omega)) rfl rfl (fun R' fg' a7' a8' a9' b h => fw_law rfl hL h)
end
