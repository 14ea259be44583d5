section
/-- a node of a layer: what may still be taken, the value, the taken set -/
abbrev mb_Nd : Type := Nat × Nat × Nat
/-- joined, gain, mustIn, mustOut -/
abbrev mb_P : Type := (Nat → Nat) × (Nat → Nat) × Nat × Nat
def mb_dr (v S : Nat) : Nat := S &&& (31 ^^^ 2 ^ v)
def mb_tk (j v S : Nat) : Nat := (S &&& (31 ^^^ 2 ^ v)) &&& (31 ^^^ j)
/-- all ways to go on from a state, k levels before the end: the set, its gain -/
def mb_cl (P : mb_P) : Nat → Nat → List (Nat × Nat)
  | 0, _ => [(0, 0)]
  | k + 1, S => (if P.2.2.1.testBit (4 - k) = true then [] else mb_cl P k (mb_dr (4 - k) S)) ++
      (if S.testBit (4 - k) = true ∧ P.2.2.2.testBit (4 - k) = false then (mb_cl P k (mb_tk (P.1 (4 - k)) (4 - k) S)).map (fun p => (p.1 + 2 ^ (4 - k), p.2 + P.2.1 (4 - k))) else [])
def mb_C (P : mb_P) (v S : Nat) : List (Nat × Nat) := mb_cl P (5 - v) S
theorem mb_C5 (P : mb_P) (S : Nat) : mb_C P 5 S = [(0, 0)] := by
  unfold mb_C
  rw [show 5 - 5 = 0 from rfl, mb_cl]
theorem mb_Cs (P : mb_P) {v : Nat} (S : Nat) (hv : v < 5) : mb_C P v S = (if P.2.2.1.testBit v = true then [] else mb_C P (v + 1) (mb_dr v S)) ++
      (if S.testBit v = true ∧ P.2.2.2.testBit v = false then (mb_C P (v + 1) (mb_tk (P.1 v) v S)).map (fun p => (p.1 + 2 ^ v, p.2 + P.2.1 v)) else []) := by
  have e1 : 5 - v = (4 - v) + 1 := by omega
  have e2 : 4 - (4 - v) = v := by omega
  have e3 : 5 - (v + 1) = 4 - v := by omega
  unfold mb_C
  rw [e1, e3, mb_cl, e2]
/-- what a node may still come to: the whole set, its value -/
def mb_A (P : mb_P) (v : Nat) (nd : mb_Nd) : List (Nat × Nat) := (mb_C P v nd.1).map (fun p => (nd.2.2 + p.1, nd.2.1 + p.2))
def mb_ch (P : mb_P) (v : Nat) (nd : mb_Nd) : List mb_Nd :=
  (if P.2.2.1.testBit v = true then [] else [(mb_dr v nd.1, nd.2.1, nd.2.2)]) ++
  (if nd.1.testBit v = true ∧ P.2.2.2.testBit v = false then [(mb_tk (P.1 v) v nd.1, nd.2.1 + P.2.1 v, nd.2.2 + 2 ^ v)] else [])
theorem mb_As (P : mb_P) {v : Nat} (nd : mb_Nd) (hv : v < 5) : mb_A P v nd = (mb_ch P v nd).flatMap (mb_A P (v + 1)) := by
  have key : ∀ (X : List (Nat × Nat)) (a b c d : Nat), (X.map (fun p => (p.1 + a, p.2 + b))).map (fun p => (c + p.1, d + p.2)) = X.map (fun p => (c + a + p.1, d + b + p.2)) := by
    intro X a b c d
    rw [List.map_map]
    apply List.map_congr_left
    intro p _
    show (c + (p.1 + a), d + (p.2 + b)) = (c + a + p.1, d + b + p.2)
    rw [show c + (p.1 + a) = c + a + p.1 by omega, show d + (p.2 + b) = d + b + p.2 by omega]
  unfold mb_ch
  rw [List.flatMap_append]
  show (mb_C P v nd.1).map (fun p => (nd.2.2 + p.1, nd.2.1 + p.2)) = _
  rw [mb_Cs P nd.1 hv, List.map_append]
  congr 1
  · by_cases c : P.2.2.1.testBit v = true
    · rw [if_pos c, if_pos c]; rfl
    · rw [if_neg c, if_neg c, List.flatMap_cons, List.flatMap_nil, List.append_nil]; rfl
  · by_cases c : nd.1.testBit v = true ∧ P.2.2.2.testBit v = false
    · rw [if_pos c, if_pos c, List.flatMap_cons, List.flatMap_nil, List.append_nil, key]; rfl
    · rw [if_neg c, if_neg c]; rfl
def mb_sub (S S' : Nat) : Prop := ∀ u, S.testBit u = true → S'.testBit u = true
theorem mb_sub_r (S : Nat) : mb_sub S S := fun _ h => h
theorem mb_sub_t {a b c : Nat} (h : mb_sub a b) (g : mb_sub b c) : mb_sub a c := fun u z => g u (h u z)
theorem mb_sub_and {S S' m : Nat} (h : mb_sub S S') : mb_sub (S &&& m) (S' &&& m) := by
  intro u hu
  rw [Nat.testBit_and, Bool.and_eq_true] at hu ⊢
  exact ⟨h u hu.1, hu.2⟩
theorem mb_sub_dr {S S' v : Nat} (h : mb_sub S S') : mb_sub (mb_dr v S) (mb_dr v S') := mb_sub_and h
theorem mb_sub_tk {S S' v j : Nat} (h : mb_sub S S') : mb_sub (mb_tk j v S) (mb_tk j v S') := mb_sub_and (mb_sub_and h)
theorem mb_clm (P : mb_P) : ∀ (k S S' : Nat), mb_sub S S' → ∀ p, p ∈ mb_cl P k S → p ∈ mb_cl P k S' := by
  intro k
  induction k with
  | zero => intro S S' _ p hp; exact hp
  | succ k ih =>
    intro S S' h p hp
    rw [mb_cl, List.mem_append] at hp ⊢
    rcases hp with hp | hp
    · left
      by_cases c : P.2.2.1.testBit (4 - k) = true
      · rw [if_pos c] at hp; exact absurd hp (by simp)
      · rw [if_neg c] at hp ⊢
        exact ih _ _ (mb_sub_dr h) p hp
    · right
      by_cases c : S.testBit (4 - k) = true ∧ P.2.2.2.testBit (4 - k) = false
      · rw [if_pos c] at hp
        rw [if_pos ⟨h _ c.1, c.2⟩]
        rw [List.mem_map] at hp ⊢
        obtain ⟨q, hq, e⟩ := hp
        exact ⟨q, ih _ _ (mb_sub_tk h) q hq, e⟩
      · rw [if_neg c] at hp; exact absurd hp (by simp)
theorem mb_Cm (P : mb_P) {v S S' : Nat} (h : mb_sub S S') {p : Nat × Nat} (hp : p ∈ mb_C P v S) : p ∈ mb_C P v S' := mb_clm P _ _ _ h p hp
/-- every node of the one has a node of the other that may take as much and is worth as much -/
def mb_dom (l l' : List mb_Nd) : Prop := ∀ m, m ∈ l → ∃ m', m' ∈ l' ∧ mb_sub m.1 m'.1 ∧ m.2.1 ≤ m'.2.1
def mb_Lv (P : mb_P) (v : Nat) (l : List mb_Nd) : List (Nat × Nat) := l.flatMap (mb_A P v)
def mb_cv (X Y : List (Nat × Nat)) : Prop := ∀ p, p ∈ X → ∃ q, q ∈ Y ∧ p.2 ≤ q.2
theorem mb_cv_r (X : List (Nat × Nat)) : mb_cv X X := fun p h => ⟨p, h, Nat.le_refl _⟩
theorem mb_cv_t {X Y Z : List (Nat × Nat)} (h : mb_cv X Y) (g : mb_cv Y Z) : mb_cv X Z := by
  intro p hp
  obtain ⟨q, hq, e⟩ := h p hp
  obtain ⟨r, hr, e'⟩ := g q hq
  exact ⟨r, hr, Nat.le_trans e e'⟩
theorem mb_dom_sub {l l' : List mb_Nd} (h : ∀ m, m ∈ l → m ∈ l') : mb_dom l l' := fun m hm => ⟨m, h m hm, mb_sub_r _, Nat.le_refl _⟩
theorem mb_dom_t {a b c : List mb_Nd} (h : mb_dom a b) (g : mb_dom b c) : mb_dom a c := by
  intro m hm
  obtain ⟨m', hm', s, e⟩ := h m hm
  obtain ⟨m'', hm'', s', e'⟩ := g m' hm'
  exact ⟨m'', hm'', mb_sub_t s s', Nat.le_trans e e'⟩
theorem mb_Lv_mem {P : mb_P} {v : Nat} {l : List mb_Nd} {p : Nat × Nat} : p ∈ mb_Lv P v l ↔ ∃ m, m ∈ l ∧ ∃ c, c ∈ mb_C P v m.1 ∧ (m.2.2 + c.1, m.2.1 + c.2) = p := by
  unfold mb_Lv mb_A
  rw [List.mem_flatMap]
  constructor
  · rintro ⟨m, hm, h⟩
    rw [List.mem_map] at h
    exact ⟨m, hm, h⟩
  · rintro ⟨m, hm, h⟩
    exact ⟨m, hm, List.mem_map.mpr h⟩
theorem mb_dom_cv {P : mb_P} {v : Nat} {l l' : List mb_Nd} (h : mb_dom l l') : mb_cv (mb_Lv P v l) (mb_Lv P v l') := by
  intro p hp
  obtain ⟨m, hm, c, hc, e⟩ := mb_Lv_mem.mp hp
  obtain ⟨m', hm', s, g⟩ := h m hm
  refine ⟨(m'.2.2 + c.1, m'.2.1 + c.2), mb_Lv_mem.mpr ⟨m', hm', c, mb_Cm P s hc, rfl⟩, ?_⟩
  rw [← e]
  show m.2.1 + c.2 ≤ m'.2.1 + c.2
  omega
theorem mb_Lv_sub {P : mb_P} {v : Nat} {l l' : List mb_Nd} (h : ∀ m, m ∈ l → m ∈ l') : ∀ p, p ∈ mb_Lv P v l → p ∈ mb_Lv P v l' := by
  intro p hp
  obtain ⟨m, hm, c, hc, e⟩ := mb_Lv_mem.mp hp
  exact mb_Lv_mem.mpr ⟨m, h m hm, c, hc, e⟩
/-! a state is put into the next layer -/
def mb_rch : List mb_Nd → mb_Nd → List mb_Nd
  | [], nd => [nd]
  | m :: l, nd => if m.1 = nd.1 then (if m.2.1 < nd.2.1 then nd :: l else m :: l) else m :: mb_rch l nd
theorem mb_rch_new : ∀ (l : List mb_Nd) (nd : mb_Nd), (∀ m, m ∈ l → ¬ m.1 = nd.1) → mb_rch l nd = l ++ [nd]
  | [], _, _ => rfl
  | m :: l, nd, h => by
    rw [mb_rch, if_neg (h m (List.mem_cons_self ..)), mb_rch_new l nd (fun m' h' => h m' (List.mem_cons_of_mem _ h'))]
    rfl
theorem mb_rch_at : ∀ (l : List mb_Nd) (nd : mb_Nd) (k : Nat) (hk : k < l.length), (∀ j (hj : j < k), ¬ (l[j]'(by omega)).1 = nd.1) → l[k].1 = nd.1 → mb_rch l nd = if l[k].2.1 < nd.2.1 then l.set k nd else l
  | [], _, k, hk, _, _ => absurd hk (by simp)
  | m :: l, nd, 0, hk, _, e => by
    have e' : m.1 = nd.1 := e
    rw [mb_rch, if_pos e']
    rfl
  | m :: l, nd, k + 1, hk, h, e => by
    have hk' : k < l.length := by simpa using hk
    have h0 : ¬ m.1 = nd.1 := h 0 (by omega)
    rw [mb_rch, if_neg h0, mb_rch_at l nd k hk' (fun j hj => h (j + 1) (by omega)) e]
    show m :: (if l[k].2.1 < nd.2.1 then l.set k nd else l) = if l[k].2.1 < nd.2.1 then m :: l.set k nd else m :: l
    by_cases c : l[k].2.1 < nd.2.1
    · rw [if_pos c, if_pos c]
    · rw [if_neg c, if_neg c]
theorem mb_rch_mem : ∀ (l : List mb_Nd) (nd m : mb_Nd), m ∈ mb_rch l nd → m = nd ∨ m ∈ l
  | [], nd, m, h => Or.inl (by simpa [mb_rch] using h)
  | a :: l, nd, m, h => by
    rw [mb_rch] at h
    by_cases c : a.1 = nd.1
    · rw [if_pos c] at h
      by_cases d : a.2.1 < nd.2.1
      · rw [if_pos d] at h
        rcases List.mem_cons.mp h with h | h
        · exact Or.inl h
        · exact Or.inr (List.mem_cons_of_mem _ h)
      · rw [if_neg d] at h
        exact Or.inr h
    · rw [if_neg c] at h
      rcases List.mem_cons.mp h with h | h
      · exact Or.inr (by rw [h]; exact List.mem_cons_self ..)
      · rcases mb_rch_mem l nd m h with h | h
        · exact Or.inl h
        · exact Or.inr (List.mem_cons_of_mem _ h)
theorem mb_rch_len : ∀ (l : List mb_Nd) (nd : mb_Nd), (mb_rch l nd).length ≤ l.length + 1
  | [], _ => by simp [mb_rch]
  | a :: l, nd => by
    have := mb_rch_len l nd
    rw [mb_rch]
    by_cases c : a.1 = nd.1
    · rw [if_pos c]
      by_cases d : a.2.1 < nd.2.1
      · rw [if_pos d]; simp
      · rw [if_neg d]; simp
    · rw [if_neg c]; simp; omega
theorem mb_rch_dom : ∀ (l : List mb_Nd) (nd : mb_Nd), mb_dom (nd :: l) (mb_rch l nd)
  | [], nd => mb_dom_sub (fun _ h => h)
  | a :: l, nd => by
    have ih := mb_rch_dom l nd
    rw [mb_rch]
    by_cases c : a.1 = nd.1
    · rw [if_pos c]
      by_cases d : a.2.1 < nd.2.1
      · rw [if_pos d]
        intro m hm
        rcases List.mem_cons.mp hm with h | h
        · exact ⟨nd, List.mem_cons_self .., by rw [h]; exact mb_sub_r _, by rw [h]; exact Nat.le_refl _⟩
        · rcases List.mem_cons.mp h with h | h
          · exact ⟨nd, List.mem_cons_self .., by rw [h, c]; exact mb_sub_r _, by rw [h]; omega⟩
          · exact ⟨m, List.mem_cons_of_mem _ h, mb_sub_r _, Nat.le_refl _⟩
      · rw [if_neg d]
        intro m hm
        rcases List.mem_cons.mp hm with h | h
        · exact ⟨a, List.mem_cons_self .., by rw [h, c]; exact mb_sub_r _, by rw [h]; omega⟩
        · exact ⟨m, h, mb_sub_r _, Nat.le_refl _⟩
    · rw [if_neg c]
      intro m hm
      rcases List.mem_cons.mp hm with h | h
      · obtain ⟨m', hm', r⟩ := ih m (by rw [h]; exact List.mem_cons_self ..)
        exact ⟨m', List.mem_cons_of_mem _ hm', r⟩
      · rcases List.mem_cons.mp h with h | h
        · exact ⟨m, by rw [h]; exact List.mem_cons_self .., mb_sub_r _, Nat.le_refl _⟩
        · obtain ⟨m', hm', r⟩ := ih m (List.mem_cons_of_mem _ h)
          exact ⟨m', List.mem_cons_of_mem _ hm', r⟩
theorem mb_fold_dom : ∀ (cs acc : List mb_Nd), mb_dom (acc ++ cs) (cs.foldl mb_rch acc)
  | [], acc => by rw [List.append_nil]; exact mb_dom_sub (fun _ h => h)
  | c :: cs, acc => by
    refine mb_dom_t ?_ (mb_fold_dom cs (mb_rch acc c))
    intro m hm
    rcases List.mem_append.mp hm with h | h
    · obtain ⟨m', hm', r⟩ := mb_rch_dom acc c m (List.mem_cons_of_mem _ h)
      exact ⟨m', List.mem_append_left _ hm', r⟩
    · rcases List.mem_cons.mp h with h | h
      · obtain ⟨m', hm', r⟩ := mb_rch_dom acc c m (by rw [h]; exact List.mem_cons_self ..)
        exact ⟨m', List.mem_append_left _ hm', r⟩
      · exact ⟨m, List.mem_append_right _ h, mb_sub_r _, Nat.le_refl _⟩
theorem mb_fold_mem : ∀ (cs acc : List mb_Nd) (m : mb_Nd), m ∈ cs.foldl mb_rch acc → m ∈ acc ∨ m ∈ cs
  | [], acc, m, h => Or.inl h
  | c :: cs, acc, m, h => by
    rcases mb_fold_mem cs (mb_rch acc c) m h with h | h
    · rcases mb_rch_mem acc c m h with h | h
      · exact Or.inr (by rw [h]; exact List.mem_cons_self ..)
      · exact Or.inl h
    · exact Or.inr (List.mem_cons_of_mem _ h)
theorem mb_fold_len : ∀ (cs acc : List mb_Nd), (cs.foldl mb_rch acc).length ≤ acc.length + cs.length
  | [], acc => by simp
  | c :: cs, acc => by
    have h1 := mb_fold_len cs (mb_rch acc c)
    have h2 := mb_rch_len acc c
    rw [List.foldl_cons, List.length_cons]
    omega
theorem mb_ch_len (P : mb_P) (v : Nat) (nd : mb_Nd) : (mb_ch P v nd).length ≤ 2 := by
  unfold mb_ch
  rw [List.length_append]
  have a : (if P.2.2.1.testBit v = true then ([] : List mb_Nd) else [(mb_dr v nd.1, nd.2.1, nd.2.2)]).length ≤ 1 := by
    by_cases c : P.2.2.1.testBit v = true
    · rw [if_pos c]; simp
    · rw [if_neg c]; simp
  have b : (if nd.1.testBit v = true ∧ P.2.2.2.testBit v = false then [(mb_tk (P.1 v) v nd.1, nd.2.1 + P.2.1 v, nd.2.2 + 2 ^ v)] else ([] : List mb_Nd)).length ≤ 1 := by
    by_cases c : nd.1.testBit v = true ∧ P.2.2.2.testBit v = false
    · rw [if_pos c]; simp
    · rw [if_neg c]; simp
  omega
theorem mb_chs_len (P : mb_P) (v : Nat) : ∀ l : List mb_Nd, (l.flatMap (mb_ch P v)).length ≤ 2 * l.length
  | [] => by simp
  | m :: l => by
    have h1 := mb_chs_len P v l
    have h2 := mb_ch_len P v m
    rw [List.flatMap_cons, List.length_append, List.length_cons]
    omega
def mb_nx (P : mb_P) (v : Nat) (l : List mb_Nd) : List mb_Nd := (l.flatMap (mb_ch P v)).foldl mb_rch []
theorem mb_nx_len (P : mb_P) (v : Nat) (l : List mb_Nd) : (mb_nx P v l).length ≤ 2 * l.length := by
  have h1 := mb_fold_len (l.flatMap (mb_ch P v)) []
  have h2 := mb_chs_len P v l
  unfold mb_nx
  rw [List.length_nil, Nat.zero_add] at h1
  omega
theorem mb_Lvs (P : mb_P) {v : Nat} (hv : v < 5) : ∀ l : List mb_Nd, mb_Lv P v l = mb_Lv P (v + 1) (l.flatMap (mb_ch P v))
  | [] => rfl
  | m :: l => by
    have ih := mb_Lvs P hv l
    unfold mb_Lv at ih ⊢
    rw [List.flatMap_cons, List.flatMap_cons, List.flatMap_append, ih, mb_As P m hv]
theorem mb_nx_cv (P : mb_P) {v : Nat} (hv : v < 5) (l : List mb_Nd) : mb_cv (mb_Lv P v l) (mb_Lv P (v + 1) (mb_nx P v l)) := by
  rw [mb_Lvs P hv l]
  exact mb_dom_cv (mb_fold_dom (l.flatMap (mb_ch P v)) [])
theorem mb_nx_sub (P : mb_P) {v : Nat} (hv : v < 5) (l : List mb_Nd) : ∀ p, p ∈ mb_Lv P (v + 1) (mb_nx P v l) → p ∈ mb_Lv P v l := by
  rw [mb_Lvs P hv l]
  refine mb_Lv_sub (fun m hm => ?_)
  rcases mb_fold_mem _ _ m hm with h | h
  · exact absurd h (by simp)
  · exact h
/-! bounds -/
def mb_wf (v : Nat) (l : List mb_Nd) : Prop := ∀ m, m ∈ l → m.1 < 32 ∧ m.2.1 ≤ 70000 * v ∧ m.2.2 < 2 ^ v
def mb_Pok (P : mb_P) : Prop := (∀ v, v < 5 → P.1 v < 32 ∧ P.2.1 v ≤ 70000) ∧ P.2.2.1 < 32 ∧ P.2.2.2 < 32
theorem mb_dr_lt {v S : Nat} (h : S < 32) : mb_dr v S < 32 := Nat.lt_of_le_of_lt Nat.and_le_left h
theorem mb_tk_lt {j v S : Nat} (h : S < 32) : mb_tk j v S < 32 := Nat.lt_of_le_of_lt Nat.and_le_left (Nat.lt_of_le_of_lt Nat.and_le_left h)
theorem mb_ch_wf {P : mb_P} (hP : mb_Pok P) {v : Nat} (hv : v < 5) {nd m : mb_Nd} (h : nd.1 < 32 ∧ nd.2.1 ≤ 70000 * v ∧ nd.2.2 < 2 ^ v) (hm : m ∈ mb_ch P v nd) : m.1 < 32 ∧ m.2.1 ≤ 70000 * (v + 1) ∧ m.2.2 < 2 ^ (v + 1) := by
  have e2 : 2 ^ (v + 1) = 2 ^ v + 2 ^ v := by rw [Nat.pow_succ]; omega
  have g := (hP.1 v hv).2
  unfold mb_ch at hm
  rcases List.mem_append.mp hm with hm | hm
  · by_cases c : P.2.2.1.testBit v = true
    · rw [if_pos c] at hm; exact absurd hm (by simp)
    · rw [if_neg c] at hm
      have e := List.mem_singleton.mp hm
      subst e
      exact ⟨mb_dr_lt h.1, by show nd.2.1 ≤ 70000 * (v + 1); omega, by show nd.2.2 < 2 ^ (v + 1); omega⟩
  · by_cases c : nd.1.testBit v = true ∧ P.2.2.2.testBit v = false
    · rw [if_pos c] at hm
      have e := List.mem_singleton.mp hm
      subst e
      exact ⟨mb_tk_lt h.1, by show nd.2.1 + P.2.1 v ≤ 70000 * (v + 1); omega, by show nd.2.2 + 2 ^ v < 2 ^ (v + 1); omega⟩
    · rw [if_neg c] at hm; exact absurd hm (by simp)
theorem mb_fold_wf {P : mb_P} (hP : mb_Pok P) {v : Nat} (hv : v < 5) {l : List mb_Nd} (h : mb_wf v l) : mb_wf (v + 1) ((l.flatMap (mb_ch P v)).foldl mb_rch []) := by
  intro m hm
  rcases mb_fold_mem _ _ m hm with z | z
  · exact absurd z (by simp)
  · obtain ⟨nd, hn, hc⟩ := List.mem_flatMap.mp z
    exact mb_ch_wf hP hv (h nd hn) hc
/-! an array holds what f says of a list -/
def mb_m {α : Type} (l : List α) (f : α → Nat) (a : Nat → Int32) : Prop := ∀ i (h : i < l.length), a i = nI (f l[i])
theorem mb_m_nil {α : Type} {f : α → Nat} {a : Nat → Int32} : mb_m [] f a := fun i h => absurd h (by simp)
theorem mb_m_set {α : Type} {l : List α} {f : α → Nat} {a : Nat → Int32} {k : Nat} {nd : α} {x : Int32} (h : mb_m l f a) (hx : x = nI (f nd)) : mb_m (l.set k nd) f (upd a k x) := by
  intro i hi
  have hi' : i < l.length := by simpa using hi
  rw [List.getElem_set]
  by_cases e : k = i
  · rw [if_pos e, e, pk_us, hx]
  · rw [if_neg e, pk_un (fun z => e z.symm)]
    exact h i hi'
theorem mb_m_set' {α : Type} {l : List α} {f : α → Nat} {a : Nat → Int32} {k : Nat} {nd : α} (hk : k < l.length) (h : mb_m l f a) (hx : f nd = f l[k]) : mb_m (l.set k nd) f a := by
  intro i hi
  have hi' : i < l.length := by simpa using hi
  rw [List.getElem_set]
  by_cases e : k = i
  · subst e
    rw [if_pos rfl, hx]
    exact h k hk
  · rw [if_neg e]
    exact h i hi'
theorem mb_m_app {α : Type} {l : List α} {f : α → Nat} {a : Nat → Int32} {k : Nat} {nd : α} {x : Int32} (h : mb_m l f a) (hk : k = l.length) (hx : x = nI (f nd)) : mb_m (l ++ [nd]) f (upd a k x) := by
  intro i hi
  have hi' : i < l.length + 1 := by simpa using hi
  by_cases e : i = l.length
  · subst e
    rw [hk, pk_us, hx]
    simp
  · rw [pk_un (by omega), List.getElem_append_left (by omega)]
    exact h i (by omega)
theorem mb_m_take {α : Type} {l : List α} {f : α → Nat} {a : Nat → Int32} (n : Nat) (h : mb_m l f a) : mb_m (l.take n) f a := by
  intro i hi
  have hi' : i < l.length := by
    rw [List.length_take] at hi
    omega
  rw [List.getElem_take]
  exact h i hi'
theorem mb_m_eq {α : Type} {l : List α} {f : α → Nat} {a b : Nat → Int32} (h : mb_m l f a) (e : ∀ j, j < l.length → b j = a j) : mb_m l f b := by
  intro i hi
  rw [e i hi]
  exact h i hi
theorem mb_m_one {α : Type} {f : α → Nat} {a : Nat → Int32} {nd : α} {x : Int32} (hx : x = nI (f nd)) : mb_m [nd] f (upd a 0 x) := mb_m_app (l := []) mb_m_nil rfl hx
end
section
theorem mb_t1 : ∀ v, v < 12 → (1 : Int32) <<< (nI v &&& 31) = nI (2 ^ v) := by decide +kernel
theorem mb_t2 : ∀ v, v < 5 → ∀ m, m < 32 → ((nI m &&& nI (2 ^ v)) = 0 ↔ m.testBit v = false) := by decide +kernel
theorem mb_tn : ∀ m, m < 32 → ∀ j, j < 32 → nI m &&& (nI j ^^^ (-1)) = nI (m &&& (31 ^^^ j)) := by decide +kernel
theorem mb_tor : ∀ m, m < 32 → ∀ j, j < 32 → nI m ||| nI j = nI (m ||| j) := by decide +kernel
theorem mb_t5 : ∀ v, v < 5 → ∀ t, t < 2 ^ v → nI t ||| nI (2 ^ v) = nI (t + 2 ^ v) := by decide +kernel
theorem mb_p5 : ∀ v, v < 5 → 2 ^ v < 32 := by decide
theorem mb_p6 : ∀ v, v < 6 → 2 ^ v ≤ 32 := by decide
theorem mb_t3 {v m : Nat} (hv : v < 5) (hm : m < 32) : nI m &&& (nI (2 ^ v) ^^^ (-1)) = nI (mb_dr v m) := mb_tn m hm _ (mb_p5 v hv)
theorem mb_t4 {v m j : Nat} (hv : v < 5) (hm : m < 32) (hj : j < 32) : (nI m &&& (nI (2 ^ v) ^^^ (-1))) &&& (nI j ^^^ (-1)) = nI (mb_tk j v m) := by
  rw [mb_t3 hv hm]
  exact mb_tn _ (mb_dr_lt hm) j hj
theorem mb_fill {f s : Nat → Int32} {i k : Nat} {x : Int32} (hk : k = i) (h : ∀ j, j < i → s j = f j) (hx : x = f i) : ∀ j, j < i + 1 → upd s k x j = f j := by
  intro j hj
  rw [hk]
  by_cases e : j = i
  · rw [e, pk_us, hx]
  · rw [pk_un e]
    exact h j (by omega)
def mb_m3 (l : List mb_Nd) (a b c : Nat → Int32) : Prop := mb_m l (fun m => m.1) a ∧ mb_m l (fun m => m.2.1) b ∧ mb_m l (fun m => m.2.2) c
section
variable {fn fw fi fo mi mo sz ns cu cs ex bv bt : Int32} {a1 a2 a3 a4 a5 a6 a7 a8 a9 a10 a11 a12 a13 a14 a15 a16 a17 : Nat → Int32}
theorem mb_reach {post : St2 → Prop} {l : List mb_Nd} {nd : mb_Nd} (hl : l.length < 64) (hn : ns = nI l.length)
    (hw : ∀ m, m ∈ l → m.1 < 32 ∧ m.2.1 < 1000000) (hd : nd.1 < 32 ∧ nd.2.1 < 1000000) (h : mb_m3 l a7 a8 a9)
    {y1 y2 y3 : Int32} (e1 : y1 = nI nd.1) (e2 : y2 = nI nd.2.1) (e3 : y3 = nI nd.2.2)
    (H : ∀ b7 b8 b9, mb_m3 (mb_rch l nd) b7 b8 b9 → post (fn, fw, fi, fo, mi, mo, sz, nI (mb_rch l nd).length, cu, cs, ex, bv, bt, a1, a2, a3, a4, a5, a6, b7, b8, b9, a10, a11, a12, a13, a14, a15, a16, a17)) :
    wpX_reach post (fn, fw, fi, fo, mi, mo, sz, ns, cu, cs, ex, bv, bt, a1, a2, a3, a4, a5, a6, a7, a8, a9, a10, a11, a12, a13, a14, a15, a16, a17) y1 y2 y3 := by
  subst hn e1 e2 e3
  obtain ⟨h7, h8, h9⟩ := h
  unfold wpX_reach
  refine pk_loop (σ := Unit) (fun n i _ => wX_reach_3 post (nI nd.1) (nI nd.2.1) (nI nd.2.2) fn fw fi fo mi mo sz (nI l.length) cu cs ex bv bt a1 a2 a3 a4 a5 a6 a7 a8 a9 a10 a11 a12 a13 a14 a15 a16 a17 n (nI i)) (fun i _ => ∀ j (hj : j < l.length), j < i → ¬ l[j].1 = nd.1) l.length 0 () (by omega) (fun j _ z => absurd z (by omega)) ?_ ?_
  · intro n _ hI
    have hr : mb_rch l nd = l ++ [nd] := mb_rch_new l nd (fun m hm z => by
      obtain ⟨j, hj, e⟩ := List.mem_iff_getElem.mp hm
      exact hI j hj hj (by rw [e]; exact z))
    refine pk_le l.length l.length (fun _ => ?_) (fun z => absurd z (by omega))
    refine pk_le 64 l.length (fun z => absurd z (by omega)) (fun _ => ⟨pk_in _ 64 hl, nm_e ⟨pk_in _ 64 hl, nm_e ⟨pk_in _ 64 hl, nm_e (nm_r (nI_1 _) ?_)⟩⟩⟩)
    rw [nI_clamp (show l.length < 2 ^ 31 by omega)]
    have t := H (upd a7 l.length (nI nd.1)) (upd a8 l.length (nI nd.2.1)) (upd a9 l.length (nI nd.2.2)) (by rw [hr]; exact ⟨mb_m_app h7 rfl rfl, mb_m_app h8 rfl rfl, mb_m_app h9 rfl rfl⟩)
    rw [hr, List.length_append] at t
    exact t
  · intro n i _ hi hI hc
    refine pk_le l.length i (fun z => absurd z (by omega)) (fun _ => ⟨pk_in i 64 (by omega), ?_⟩)
    have hm := hw l[i] (List.getElem_mem hi)
    rw [nI_clamp (show i < 2 ^ 31 by omega), show a7 i = nI l[i].1 from h7 i hi, show a8 i = nI l[i].2.1 from h8 i hi]
    refine pk_eq l[i].1 nd.1 (fun e => ⟨pk_in i 64 (by omega), ?_⟩) (fun e => nm_r (nI_1 i) (hc () ?_)) rfl rfl (by omega) (by omega)
    · have hr := mb_rch_at l nd i hi (fun j hj => hI j (by omega) hj) e
      refine pk_le nd.2.1 l[i].2.1 (fun z => ?_) (fun z => ⟨pk_in i 64 (by omega), nm_e ⟨pk_in i 64 (by omega), nm_e ?_⟩⟩) rfl rfl (by omega) (by omega)
      · rw [if_neg (by omega)] at hr
        have t := H a7 a8 a9 (by rw [hr]; exact ⟨h7, h8, h9⟩)
        rw [hr] at t
        exact t
      · rw [if_pos z] at hr
        have t := H a7 (upd a8 i (nI nd.2.1)) (upd a9 i (nI nd.2.2)) (by rw [hr]; exact ⟨mb_m_set' hi h7 e.symm, mb_m_set h8 rfl, mb_m_set h9 rfl⟩)
        rw [hr, List.length_set] at t
        exact t
    · intro j hj hji
      by_cases z : j = i
      · subst z; exact e
      · exact hI j hj (by omega)
/-- joined, gain, mustIn, mustOut stand in the object -/
def mb_ob (P : mb_P) (mi mo : Int32) (a1 a3 : Nat → Int32) : Prop := mi = nI P.2.2.1 ∧ mo = nI P.2.2.2 ∧ ∀ v, v < 5 → a1 v = nI (P.1 v) ∧ a3 v = nI (P.2.1 v)
def mb_c2 (P : mb_P) (v : Nat) (nd : mb_Nd) : List mb_Nd := if nd.1.testBit v = true ∧ P.2.2.2.testBit v = false then [(mb_tk (P.1 v) v nd.1, nd.2.1 + P.2.1 v, nd.2.2 + 2 ^ v)] else []
theorem mb_expand39 {post : St2 → Prop} {P : mb_P} (hP : mb_Pok P) {v i : Nat} (hv : v < 5) (hi : i < 64) {nd : mb_Nd} {acc : List mb_Nd} (hl : acc.length < 64) (hn : ns = nI acc.length)
    (hw : mb_wf (v + 1) acc) (hd : nd.1 < 32 ∧ nd.2.1 ≤ 70000 * v ∧ nd.2.2 < 2 ^ v) (ob : mb_ob P mi mo a1 a3)
    (e4 : a4 i = nI nd.1) (e5 : a5 i = nI nd.2.1) (e6 : a6 i = nI nd.2.2) (h : mb_m3 acc a7 a8 a9)
    (H : ∀ b7 b8 b9, mb_m3 ((mb_c2 P v nd).foldl mb_rch acc) b7 b8 b9 → post (fn, fw, fi, fo, mi, mo, sz, nI ((mb_c2 P v nd).foldl mb_rch acc).length, cu, cs, ex, bv, bt, a1, a2, a3, a4, a5, a6, b7, b8, b9, a10, a11, a12, a13, a14, a15, a16, a17)) :
    wX_expand_39 post (nI i) (nI v) (nI (2 ^ v)) fn fw fi fo mi mo sz ns cu cs ex bv bt a1 a2 a3 a4 a5 a6 a7 a8 a9 a10 a11 a12 a13 a14 a15 a16 a17 := by
  obtain ⟨em, eo, o⟩ := ob
  subst hn em eo
  have o1 := (o v hv).1
  have o3 := (o v hv).2
  have pj := (hP.1 v hv).1
  have pg := (hP.1 v hv).2
  unfold wX_expand_39
  rw [nI_clamp (show i < 2 ^ 31 by omega), nI_clamp (show v < 2 ^ 31 by omega), o1, o3, e4, e5, e6]
  refine ⟨pk_in i 64 hi, ek_if (mb_t2 v hv nd.1 hd.1) (fun z => ?_) (fun z => ek_if (mb_t2 v hv P.2.2.2 hP.2.2) (fun y => ⟨pk_in i 64 hi, pk_in v 12 (by omega), pk_in i 64 hi, pk_in v 12 (by omega), pk_in i 64 hi, ?_⟩) (fun y => ?_))⟩
  · have e : mb_c2 P v nd = [] := if_neg (fun c => by rw [z] at c; exact absurd c.1 (by decide))
    rw [e] at H
    exact H a7 a8 a9 h
  · have z' : nd.1.testBit v = true := by
      cases c : nd.1.testBit v
      · exact absurd c z
      · rfl
    have e : mb_c2 P v nd = [(mb_tk (P.1 v) v nd.1, nd.2.1 + P.2.1 v, nd.2.2 + 2 ^ v)] := if_pos ⟨z', y⟩
    rw [e] at H
    refine mb_reach (l := acc) (nd := (mb_tk (P.1 v) v nd.1, nd.2.1 + P.2.1 v, nd.2.2 + 2 ^ v)) hl rfl (fun m hm => ⟨(hw m hm).1, by have := (hw m hm).2.1; omega⟩) ⟨mb_tk_lt hd.1, by show nd.2.1 + P.2.1 v < 1000000; omega⟩ h (mb_t4 hv hd.1 pj) (nI_add _ _) (mb_t5 v hv _ hd.2.2) (fun b7 b8 b9 g => ?_)
    exact H b7 b8 b9 g
  · have e : mb_c2 P v nd = [] := if_neg (fun c => y c.2)
    rw [e] at H
    exact H a7 a8 a9 h
theorem mb_expand {post : St2 → Prop} {P : mb_P} (hP : mb_Pok P) {v i : Nat} (hv : v < 5) (hi : i < 64) {nd : mb_Nd} {acc : List mb_Nd} (hl : acc.length + 2 ≤ 64) (hn : ns = nI acc.length)
    (hw : mb_wf (v + 1) acc) (hd : nd.1 < 32 ∧ nd.2.1 ≤ 70000 * v ∧ nd.2.2 < 2 ^ v) (ob : mb_ob P mi mo a1 a3)
    (e4 : a4 i = nI nd.1) (e5 : a5 i = nI nd.2.1) (e6 : a6 i = nI nd.2.2) (h : mb_m3 acc a7 a8 a9)
    (H : ∀ b7 b8 b9, mb_m3 ((mb_ch P v nd).foldl mb_rch acc) b7 b8 b9 → post (fn, fw, fi, fo, mi, mo, sz, nI ((mb_ch P v nd).foldl mb_rch acc).length, cu, cs, ex, bv, bt, a1, a2, a3, a4, a5, a6, b7, b8, b9, a10, a11, a12, a13, a14, a15, a16, a17)) :
    wpX_expand post (fn, fw, fi, fo, mi, mo, sz, ns, cu, cs, ex, bv, bt, a1, a2, a3, a4, a5, a6, a7, a8, a9, a10, a11, a12, a13, a14, a15, a16, a17) (nI i) (nI v) := by
  have ob' := ob
  obtain ⟨em, eo, o⟩ := ob
  subst hn em eo
  unfold wpX_expand
  refine nm_r (mb_t1 v (by omega)) ?_
  rw [nI_clamp (show i < 2 ^ 31 by omega), e4, e5, e6]
  refine ek_if (mb_t2 v hv P.2.2.1 hP.2.1) (fun z => ⟨pk_in i 64 hi, pk_in i 64 hi, pk_in i 64 hi, ?_⟩) (fun z => ?_)
  · have e : mb_ch P v nd = [(mb_dr v nd.1, nd.2.1, nd.2.2)] ++ mb_c2 P v nd := by
      unfold mb_ch mb_c2
      rw [if_neg (by rw [z]; decide)]
    have e2 : (mb_ch P v nd).foldl mb_rch acc = (mb_c2 P v nd).foldl mb_rch (mb_rch acc (mb_dr v nd.1, nd.2.1, nd.2.2)) := by rw [e, List.foldl_append]; rfl
    rw [e2] at H
    refine mb_reach (l := acc) (nd := (mb_dr v nd.1, nd.2.1, nd.2.2)) (by omega) rfl (fun m hm => ⟨(hw m hm).1, by have := (hw m hm).2.1; omega⟩) ⟨mb_dr_lt hd.1, by show nd.2.1 < 1000000; omega⟩ h (mb_t3 hv hd.1) rfl rfl (fun b7 b8 b9 g => ?_)
    have hlen := mb_rch_len acc (mb_dr v nd.1, nd.2.1, nd.2.2)
    refine mb_expand39 hP hv hi (by omega) rfl (fun m hm => ?_) hd ob' e4 e5 e6 g (fun c7 c8 c9 g' => H c7 c8 c9 g')
    rcases mb_rch_mem _ _ m hm with q | q
    · rw [q]
      refine mb_ch_wf hP hv hd ?_
      rw [e]
      exact List.mem_cons_self ..
    · exact hw m q
  · have z' : P.2.2.1.testBit v = true := by
      cases c : P.2.2.1.testBit v
      · exact absurd c z
      · rfl
    have e : mb_ch P v nd = mb_c2 P v nd := by
      unfold mb_ch mb_c2
      rw [if_pos z']
      rfl
    rw [e] at H
    exact mb_expand39 hP hv hi (by omega) rfl hw hd ob' e4 e5 e6 h H
theorem mb_takeLayer {post : St2 → Prop} {n : Nat} (hn : n ≤ 64) (e : ns = nI n)
    (H : ∀ b4 b5 b6, (∀ j, j < n → b4 j = a7 j) → (∀ j, j < n → b5 j = a8 j) → (∀ j, j < n → b6 j = a9 j) → post (fn, fw, fi, fo, mi, mo, nI n, nI n, cu, cs, ex, bv, bt, a1, a2, a3, b4, b5, b6, a7, a8, a9, a10, a11, a12, a13, a14, a15, a16, a17)) : wpX_takeLayer post (fn, fw, fi, fo, mi, mo, sz, ns, cu, cs, ex, bv, bt, a1, a2, a3, a4, a5, a6, a7, a8, a9, a10, a11, a12, a13, a14, a15, a16, a17) := by
  subst e
  unfold wpX_takeLayer
  refine pk_loop (fun k i (s : (Nat → Int32) × (Nat → Int32) × (Nat → Int32)) => wX_takeLayer_10 post fn fw fi fo mi mo (nI n) (nI n) cu cs ex bv bt k (nI i) a1 a2 a3 s.1 s.2.1 s.2.2 a7 a8 a9 a10 a11 a12 a13 a14 a15 a16 a17) (fun i s => (∀ j, j < i → s.1 j = a7 j) ∧ (∀ j, j < i → s.2.1 j = a8 j) ∧ (∀ j, j < i → s.2.2 j = a9 j)) n 0 (a4, a5, a6) (by omega) ⟨lt_0, lt_0, lt_0⟩ ?_ ?_
  · intro k s h
    exact pk_le n n (fun _ => H _ _ _ h.1 h.2.1 h.2.2) (fun z => absurd z (by omega))
  · intro k i s hi h hc
    have p : vp_in (nI i) 64 := pk_in i 64 (by omega)
    have c : (nI i).toNatClampNeg = i := nI_clamp (by omega)
    exact pk_le n i (fun z => absurd z (by omega)) (fun _ => ⟨p, p, nm_e ⟨p, p, nm_e ⟨p, p, nm_e (nm_r (nI_1 i) (hc (_, _, _) ⟨mb_fill c h.1 (by rw [c]), mb_fill c h.2.1 (by rw [c]), mb_fill c h.2.2 (by rw [c])⟩))⟩⟩⟩)
theorem mb_keepCut {post : St2 → Prop} {n : Nat} (hn : n ≤ 64) (e : sz = nI n) {y : Int32}
    (H : ∀ b4 b5 b6, (∀ j, j < n → b4 j = a4 j) → (∀ j, j < n → b5 j = a5 j) → (∀ j, j < n → b6 j = a6 j) → post (fn, fw, fi, fo, mi, mo, nI n, ns, y, nI n, ex, bv, bt, a1, a2, a3, a4, a5, a6, a7, a8, a9, b4, b5, b6, a13, a14, a15, a16, a17)) : wpX_keepCut post (fn, fw, fi, fo, mi, mo, sz, ns, cu, cs, ex, bv, bt, a1, a2, a3, a4, a5, a6, a7, a8, a9, a10, a11, a12, a13, a14, a15, a16, a17) y := by
  subst e
  unfold wpX_keepCut
  refine pk_loop (fun k i (s : (Nat → Int32) × (Nat → Int32) × (Nat → Int32)) => wX_keepCut_15 post fn fw fi fo mi mo (nI n) ns y (nI n) ex bv bt k (nI i) a1 a2 a3 a4 a5 a6 a7 a8 a9 s.1 s.2.1 s.2.2 a13 a14 a15 a16 a17) (fun i s => (∀ j, j < i → s.1 j = a4 j) ∧ (∀ j, j < i → s.2.1 j = a5 j) ∧ (∀ j, j < i → s.2.2 j = a6 j)) n 0 (a10, a11, a12) (by omega) ⟨lt_0, lt_0, lt_0⟩ ?_ ?_
  · intro k s h
    exact pk_le n n (fun _ => H _ _ _ h.1 h.2.1 h.2.2) (fun z => absurd z (by omega))
  · intro k i s hi h hc
    have p : vp_in (nI i) 64 := pk_in i 64 (by omega)
    have c : (nI i).toNatClampNeg = i := nI_clamp (by omega)
    exact pk_le n i (fun z => absurd z (by omega)) (fun _ => ⟨p, p, nm_e ⟨p, p, nm_e ⟨p, p, nm_e (nm_r (nI_1 i) (hc (_, _, _) ⟨mb_fill c h.1 (by rw [c]), mb_fill c h.2.1 (by rw [c]), mb_fill c h.2.2 (by rw [c])⟩))⟩⟩⟩)
end
end
section
/-- the values fall, below place i -/
def mb_srt (i : Nat) (c : List mb_Nd) : Prop := ∀ p q (hp : p < c.length) (hq : q < c.length), p < q → q < i → c[q].2.1 ≤ c[p].2.1
/-- a hole at place k of c, where nd belongs -/
def mb_sI (l : List mb_Nd) (i : Nat) (nd : mb_Nd) (k : Nat) (c : List mb_Nd) : Prop :=
  c.length = l.length ∧ k ≤ i ∧ (c.set k nd).Perm l ∧ (∀ p q (hp : p < c.length) (hq : q < c.length), p < q → q ≤ i → p ≠ k → q ≠ k → c[q].2.1 ≤ c[p].2.1) ∧ (∀ q (hq : q < c.length), k < q → q ≤ i → c[q].2.1 ≤ nd.2.1)
theorem mb_sI_0 {l c : List mb_Nd} {i : Nat} (hl : c.length = l.length) (hp : c.Perm l) (hs : mb_srt i c) (hi : i < c.length) : mb_sI l i c[i] i c := by
  refine ⟨hl, Nat.le_refl _, ?_, fun p q h1 h2 h3 h4 h5 h6 => hs p q h1 h2 h3 (by omega), fun q h1 h2 h3 => absurd h2 (by omega)⟩
  rw [List.set_getElem_self]
  exact hp
theorem mb_sI_s {l c : List mb_Nd} {i k : Nat} {nd : mb_Nd} (h : mb_sI l i nd (k + 1) c) (hi : i < l.length) (hk : k < c.length) (hlt : c[k].2.1 < nd.2.1) : mb_sI l i nd k (c.set (k + 1) c[k]) := by
  obtain ⟨h1, h2, h3, h4, h5⟩ := h
  refine ⟨by rw [List.length_set]; exact h1, by omega, ?_, ?_, ?_⟩
  · refine List.Perm.trans ?_ h3
    have hA1 : k + 1 < (c.set (k + 1) nd).length := by rw [List.length_set]; omega
    have hA2 : k < (c.set (k + 1) nd).length := by rw [List.length_set]; omega
    have t := List.set_set_perm (as := c.set (k + 1) nd) hA1 hA2
    rw [List.getElem_set_self, List.getElem_set_ne (by omega), List.set_set] at t
    exact t
  · intro p q hp hq hpq hqi hpk hqk
    have hp' : p < c.length := by simpa using hp
    have hq' : q < c.length := by simpa using hq
    rw [List.getElem_set, List.getElem_set]
    by_cases c1 : k + 1 = q
    · rw [if_pos c1, if_neg (by omega)]
      exact h4 p k hp' hk (by omega) (by omega) (by omega) (by omega)
    · rw [if_neg c1]
      by_cases c2 : k + 1 = p
      · rw [if_pos c2]
        exact h4 k q hk hq' (by omega) hqi (by omega) (by omega)
      · rw [if_neg c2]
        exact h4 p q hp' hq' hpq hqi (by omega) (by omega)
  · intro q hq hkq hqi
    have hq' : q < c.length := by simpa using hq
    rw [List.getElem_set]
    by_cases c1 : k + 1 = q
    · rw [if_pos c1]; omega
    · rw [if_neg c1]
      exact h5 q hq' (by omega) hqi
theorem mb_sI_x {l c : List mb_Nd} {i k : Nat} {nd : mb_Nd} (h : mb_sI l i nd k c) (hi : i < l.length) (hx : k = 0 ∨ ∃ hk : k - 1 < c.length, nd.2.1 ≤ c[k - 1].2.1) : (c.set k nd).length = l.length ∧ (c.set k nd).Perm l ∧ mb_srt (i + 1) (c.set k nd) := by
  obtain ⟨h1, h2, h3, h4, h5⟩ := h
  refine ⟨by rw [List.length_set]; exact h1, h3, ?_⟩
  intro p q hp hq hpq hqi
  have hp' : p < c.length := by simpa using hp
  have hq' : q < c.length := by simpa using hq
  rw [List.getElem_set, List.getElem_set]
  by_cases c1 : k = q
  · rw [if_pos c1, if_neg (by omega)]
    rcases hx with z | ⟨hk, z⟩
    · exact absurd z (by omega)
    · by_cases e : p = k - 1
      · subst e; exact z
      · exact Nat.le_trans z (h4 p (k - 1) hp' hk (by omega) (by omega) (by omega) (by omega))
  · rw [if_neg c1]
    by_cases c2 : k = p
    · rw [if_pos c2]
      exact h5 q hq' (by omega) (by omega)
    · rw [if_neg c2]
      exact h4 p q hp' hq' hpq (by omega) (by omega) (by omega)
theorem mb_m3_set {l : List mb_Nd} {a b c : Nat → Int32} {k : Nat} {nd : mb_Nd} {x y z : Int32} (h : mb_m3 l a b c) (hx : x = nI nd.1) (hy : y = nI nd.2.1) (hz : z = nI nd.2.2) : mb_m3 (l.set k nd) (upd a k x) (upd b k y) (upd c k z) :=
  ⟨mb_m_set h.1 hx, mb_m_set h.2.1 hy, mb_m_set h.2.2 hz⟩
theorem mb_m3_1 {l : List mb_Nd} {a b c : Nat → Int32} {i : Nat} (h : mb_m3 l a b c) (hi : i < l.length) : a i = nI l[i].1 := h.1 i hi
theorem mb_m3_2 {l : List mb_Nd} {a b c : Nat → Int32} {i : Nat} (h : mb_m3 l a b c) (hi : i < l.length) : b i = nI l[i].2.1 := h.2.1 i hi
theorem mb_m3_3 {l : List mb_Nd} {a b c : Nat → Int32} {i : Nat} (h : mb_m3 l a b c) (hi : i < l.length) : c i = nI l[i].2.2 := h.2.2 i hi
section
variable {fn fw fi fo mi mo sz ns cu cs ex bv bt : Int32} {a1 a2 a3 a4 a5 a6 a7 a8 a9 a10 a11 a12 a13 a14 a15 a16 a17 : Nat → Int32}
theorem mb_sort107 {post : St2 → Prop} {J2 : Int32 → (Nat → Int32) → (Nat → Int32) → (Nat → Int32) → (Nat → Int32) → (Nat → Int32) → (Nat → Int32) → (Nat → Int32) → (Nat → Int32) → (Nat → Int32) → (Nat → Int32) → (Nat → Int32) → (Nat → Int32) → (Nat → Int32) → (Nat → Int32) → (Nat → Int32) → (Nat → Int32) → (Nat → Int32) → Prop}
    {l c : List mb_Nd} {i k : Nat} {nd : mb_Nd} (hl : l.length ≤ 64) (hi : i < l.length) (hI : mb_sI l i nd k c) (hm : mb_m3 c a4 a5 a6) (hx : k = 0 ∨ ∃ hk : k - 1 < c.length, nd.2.1 ≤ c[k - 1].2.1)
    (H : ∀ c' b4 b5 b6, c'.length = l.length → c'.Perm l → mb_srt (i + 1) c' → mb_m3 c' b4 b5 b6 → J2 (nI (i + 1)) a1 a2 a3 b4 b5 b6 a7 a8 a9 a10 a11 a12 a13 a14 a15 a16 a17) :
    wX_sortLayer_107 post J2 (nI i) (nI nd.1) (nI nd.2.1) (nI nd.2.2) (nI k) fn fw fi fo mi mo sz ns cu cs ex bv bt a1 a2 a3 a4 a5 a6 a7 a8 a9 a10 a11 a12 a13 a14 a15 a16 a17 := by
  have hk := hI.2.1
  have p : vp_in (nI k) 64 := pk_in k 64 (by omega)
  obtain ⟨x1, x2, x3⟩ := mb_sI_x hI hi hx
  unfold wX_sortLayer_107
  rw [nI_clamp (show k < 2 ^ 31 by omega)]
  exact ⟨p, nm_e ⟨p, nm_e ⟨p, nm_e (nm_r (nI_1 i) (H _ _ _ _ x1 x2 x3 (mb_m3_set hm rfl rfl rfl)))⟩⟩⟩
theorem mb_sort35 {post : St2 → Prop} {J2 : Int32 → (Nat → Int32) → (Nat → Int32) → (Nat → Int32) → (Nat → Int32) → (Nat → Int32) → (Nat → Int32) → (Nat → Int32) → (Nat → Int32) → (Nat → Int32) → (Nat → Int32) → (Nat → Int32) → (Nat → Int32) → (Nat → Int32) → (Nat → Int32) → (Nat → Int32) → (Nat → Int32) → (Nat → Int32) → Prop}
    {l : List mb_Nd} {i : Nat} {nd : mb_Nd} (hl : l.length ≤ 64) (hi : i < l.length) (hw : ∀ m, m ∈ l → m.2.1 < 1000000) (hn : nd.2.1 < 1000000)
    (H : ∀ c' b4 b5 b6, c'.length = l.length → c'.Perm l → mb_srt (i + 1) c' → mb_m3 c' b4 b5 b6 → J2 (nI (i + 1)) a1 a2 a3 b4 b5 b6 a7 a8 a9 a10 a11 a12 a13 a14 a15 a16 a17) :
    ∀ (k : Nat) (c : List mb_Nd) (b4 b5 b6 : Nat → Int32), mb_sI l i nd k c → mb_m3 c b4 b5 b6 → wX_sortLayer_35 post J2 (nI i) (nI nd.1) (nI nd.2.1) (nI nd.2.2) fn fw fi fo mi mo sz ns cu cs ex bv bt (k + 1) (nI k) a1 a2 a3 b4 b5 b6 a7 a8 a9 a10 a11 a12 a13 a14 a15 a16 a17 := by
  intro k
  induction k with
  | zero =>
    intro c b4 b5 b6 hI hm
    exact pk_le 0 0 (fun _ => mb_sort107 hl hi hI hm (Or.inl rfl) (fun c' d4 d5 d6 => H c' d4 d5 d6)) (fun z => absurd z (by omega))
  | succ k ih =>
    intro c b4 b5 b6 hI hm
    have hc : c.length = l.length := hI.1
    have hki := hI.2.1
    have hk : k < c.length := by omega
    have p : vp_in (nI k) 64 := pk_in k 64 (by omega)
    have p' : vp_in (nI (k + 1)) 64 := pk_in (k + 1) 64 (by omega)
    have es : nI (k + 1) - 1 = nI k := nI_pred k
    have hv : c[k].2.1 < 1000000 := by
      have t : (c.set (k + 1) nd)[k]'(by rw [List.length_set]; omega) ∈ l := hI.2.2.1.mem_iff.mp (List.getElem_mem _)
      rw [List.getElem_set_ne (by omega)] at t
      exact hw _ t
    refine pk_le (k + 1) 0 (fun z => absurd z (by omega)) (fun _ => ?_)
    rw [es, nI_clamp (show k < 2 ^ 31 by omega), nI_clamp (show k + 1 < 2 ^ 31 by omega), mb_m3_1 hm hk, mb_m3_2 hm hk, mb_m3_3 hm hk]
    refine ⟨p, pk_le nd.2.1 c[k].2.1 (fun z => ?_) (fun z => ?_) rfl rfl (by omega) (by omega)⟩
    · exact mb_sort107 hl hi hI hm (Or.inr ⟨hk, z⟩) (fun c' d4 d5 d6 => H c' d4 d5 d6)
    · refine ⟨p, p', nm_e ⟨p, p', nm_e ⟨p, p', nm_e (nm_r (pk_m1 k) ?_)⟩⟩⟩
      exact ih (c.set (k + 1) c[k]) _ _ _ (mb_sI_s hI hi hk z) (mb_m3_set hm rfl rfl rfl)
theorem mb_sort2 {post : St2 → Prop} {l : List mb_Nd} (hl : l.length ≤ 64) (hs : sz = nI l.length) (hw : ∀ m, m ∈ l → m.2.1 < 1000000)
    (H : ∀ c b4 b5 b6, c.length = l.length → c.Perm l → mb_srt l.length c → mb_m3 c b4 b5 b6 → post (fn, fw, fi, fo, mi, mo, sz, ns, cu, cs, ex, bv, bt, a1, a2, a3, b4, b5, b6, a7, a8, a9, a10, a11, a12, a13, a14, a15, a16, a17)) :
    ∀ (d i : Nat) (c : List mb_Nd) (b4 b5 b6 : Nat → Int32), l.length ≤ i + d → c.length = l.length → c.Perm l → mb_srt i c → mb_m3 c b4 b5 b6 → i < 2 ^ 30 → wX_sortLayer_2 post fn fw fi fo mi mo sz ns cu cs ex bv bt (d + 1) (nI i) a1 a2 a3 b4 b5 b6 a7 a8 a9 a10 a11 a12 a13 a14 a15 a16 a17 := by
  intro d
  induction d with
  | zero =>
    intro i c b4 b5 b6 hd hc hp hsr hm hi
    exact pk_le l.length i (fun _ => H c b4 b5 b6 hc hp (fun p q h1 h2 h3 h4 => hsr p q h1 h2 h3 (by omega)) hm) (fun z => absurd z (by omega)) hs
  | succ d ih =>
    intro i c b4 b5 b6 hd hc hp hsr hm hi
    refine pk_le l.length i (fun _ => H c b4 b5 b6 hc hp (fun p q h1 h2 h3 h4 => hsr p q h1 h2 h3 (by omega)) hm) (fun z => ?_) hs
    have hic : i < c.length := by omega
    have p : vp_in (nI i) 64 := pk_in i 64 (by omega)
    rw [nI_clamp (show i < 2 ^ 31 by omega), mb_m3_1 hm hic, mb_m3_2 hm hic, mb_m3_3 hm hic]
    refine ⟨p, nm_e ⟨p, nm_e ⟨p, nm_e ⟨i + 1, ?_⟩⟩⟩⟩
    refine mb_sort35 hl z hw (hw _ (hp.mem_iff.mp (List.getElem_mem hic))) (fun c' d4 d5 d6 g1 g2 g3 g4 => ?_) i c b4 b5 b6 (mb_sI_0 hc hp hsr hic) hm
    exact ih (i + 1) c' d4 d5 d6 (by omega) g1 g2 g3 g4 (by omega)
theorem mb_sort {post : St2 → Prop} {l : List mb_Nd} (hl : l.length ≤ 64) (hs : sz = nI l.length) (hw : ∀ m, m ∈ l → m.2.1 < 1000000) (hm : mb_m3 l a4 a5 a6)
    (H : ∀ c b4 b5 b6, c.length = l.length → c.Perm l → mb_srt l.length c → mb_m3 c b4 b5 b6 → post (fn, fw, fi, fo, mi, mo, sz, ns, cu, cs, ex, bv, bt, a1, a2, a3, b4, b5, b6, a7, a8, a9, a10, a11, a12, a13, a14, a15, a16, a17)) : wpX_sortLayer post (fn, fw, fi, fo, mi, mo, sz, ns, cu, cs, ex, bv, bt, a1, a2, a3, a4, a5, a6, a7, a8, a9, a10, a11, a12, a13, a14, a15, a16, a17) := by
  unfold wpX_sortLayer
  exact ⟨l.length + 1, mb_sort2 hl hs hw H l.length 1 l a4 a5 a6 (by omega) rfl (List.Perm.refl _) (fun p q h1 h2 h3 h4 => absurd h3 (by omega)) hm (by omega)⟩
theorem mb_merge {post : St2 → Prop} {l : List mb_Nd} {w : Nat} (hw : 1 ≤ w) (hwl : w ≤ l.length) (hl : l.length ≤ 64) (e : sz = nI l.length) (wf : ∀ m, m ∈ l → m.1 < 32) (h : mb_m l (fun m => m.1) a4)
    (H : ∀ (b4 : Nat → Int32) (S : Nat), S < 32 → (∀ j (hj : j < l.length), w - 1 ≤ j → mb_sub l[j].1 S) → b4 (w - 1) = nI S → (∀ j, j ≠ w - 1 → b4 j = a4 j) → post (fn, fw, fi, fo, mi, mo, sz, ns, cu, cs, ex, bv, bt, a1, a2, a3, b4, a5, a6, a7, a8, a9, a10, a11, a12, a13, a14, a15, a16, a17)) : wpX_mergeBehind post (fn, fw, fi, fo, mi, mo, sz, ns, cu, cs, ex, bv, bt, a1, a2, a3, a4, a5, a6, a7, a8, a9, a10, a11, a12, a13, a14, a15, a16, a17) (nI w) := by
  have hw1 : w - 1 < l.length := by omega
  unfold wpX_mergeBehind
  refine pk_loop (fun k i (s : Nat → Int32) => wX_mergeBehind_2 post (nI w) fn fw fi fo mi mo sz ns cu cs ex bv bt k (nI i) a1 a2 a3 s a5 a6 a7 a8 a9 a10 a11 a12 a13 a14 a15 a16 a17)
    (fun i s => ∃ S, w ≤ i ∧ S < 32 ∧ (∀ j (hj : j < l.length), w - 1 ≤ j → j < i → mb_sub l[j].1 S) ∧ s (w - 1) = nI S ∧ ∀ j, j ≠ w - 1 → s j = a4 j) l.length w a4 hwl
    ⟨l[w - 1].1, Nat.le_refl _, wf _ (List.getElem_mem hw1), ?_, h (w - 1) hw1, fun j _ => rfl⟩ ?_ ?_
  · intro j hj h1 h2
    have ej : j = w - 1 := by omega
    subst ej
    exact mb_sub_r _
  · intro k s hI
    obtain ⟨S, s0, s1, s2, s3, s4⟩ := hI
    exact pk_le l.length l.length (fun _ => H s S s1 (fun j hj h1 => s2 j hj h1 hj) s3 s4) (fun z => absurd z (by omega)) e
  · intro k i s hi hI hc
    obtain ⟨S, s0, s1, s2, s3, s4⟩ := hI
    refine pk_le l.length i (fun z => absurd z (by omega)) (fun _ => ?_) e
    have es : nI w - 1 = nI (w - 1) := pk_sub (b := 1) hw
    rw [es]
    have p : vp_in (nI (w - 1)) 64 := pk_in (w - 1) 64 (by omega)
    have p' : vp_in (nI i) 64 := pk_in i 64 (by omega)
    have wi : l[i].1 < 32 := wf _ (List.getElem_mem hi)
    refine ⟨p, p', p, nm_e (nm_r (nI_1 i) (hc _ ?_))⟩
    have hs : s i = nI l[i].1 := by rw [s4 i (by omega)]; exact h i hi
    rw [nI_clamp (show w - 1 < 2 ^ 31 by omega), nI_clamp (show i < 2 ^ 31 by omega), s3, hs, mb_tor S s1 _ wi]
    refine ⟨S ||| l[i].1, by omega, Nat.or_lt_two_pow (n := 5) s1 wi, fun j hj h1 h2 => ?_, pk_us, fun j hj => by rw [pk_un hj]; exact s4 j hj⟩
    by_cases q : j = i
    · subst q
      intro u hu
      rw [Nat.testBit_or, hu, Bool.or_true]
    · intro u hu
      rw [Nat.testBit_or, s2 j hj h1 (by omega) u hu, Bool.true_or]
end
end
section
theorem mb_mg {l L : List mb_Nd} {w S v : Nat} (hw : 1 ≤ w) (hwl : w ≤ L.length) (hp : L.Perm l) (hs : mb_srt L.length L) (hS : S < 32) (hm : ∀ j (hj : j < L.length), w - 1 ≤ j → mb_sub L[j].1 S) (wf : mb_wf v l) :
    ((L.set (w - 1) (S, (L[w - 1]'(by omega)).2)).take w).length = w ∧ mb_wf v ((L.set (w - 1) (S, (L[w - 1]'(by omega)).2)).take w) ∧ mb_dom l ((L.set (w - 1) (S, (L[w - 1]'(by omega)).2)).take w) := by
  have h1 : w - 1 < L.length := by omega
  refine ⟨by rw [List.length_take, List.length_set]; omega, ?_, ?_⟩
  · intro nd hn
    rcases List.mem_or_eq_of_mem_set (List.mem_of_mem_take hn) with z | z
    · exact wf nd (hp.mem_iff.mp z)
    · have q := wf _ (hp.mem_iff.mp (List.getElem_mem h1))
      rw [z]
      exact ⟨hS, q.2⟩
  · intro nd hn
    obtain ⟨j, hj, e⟩ := List.mem_iff_getElem.mp (hp.mem_iff.mpr hn)
    by_cases c : j < w - 1
    · refine ⟨nd, ?_, mb_sub_r _, Nat.le_refl _⟩
      rw [List.mem_iff_getElem]
      refine ⟨j, by rw [List.length_take, List.length_set]; omega, ?_⟩
      rw [List.getElem_take, List.getElem_set_ne (by omega)]
      exact e
    · refine ⟨(S, L[w - 1].2), ?_, ?_, ?_⟩
      · rw [List.mem_iff_getElem]
        refine ⟨w - 1, by rw [List.length_take, List.length_set]; omega, ?_⟩
        rw [List.getElem_take, List.getElem_set_self]
      · rw [← e]
        exact hm j hj (by omega)
      · rw [← e]
        show L[j].2.1 ≤ L[w - 1].2.1
        by_cases q : j = w - 1
        · subst q; exact Nat.le_refl _
        · exact hs (w - 1) j h1 hj (by omega) hj
def mb_ac (P : mb_P) (v : Nat) (l : List mb_Nd) (i : Nat) : List mb_Nd := ((l.take i).flatMap (mb_ch P v)).foldl mb_rch []
theorem mb_ac_0 (P : mb_P) (v : Nat) (l : List mb_Nd) : mb_ac P v l 0 = [] := by
  unfold mb_ac
  rw [List.take_zero]
  rfl
theorem mb_ac_s (P : mb_P) (v : Nat) (l : List mb_Nd) {i : Nat} (hi : i < l.length) : mb_ac P v l (i + 1) = (mb_ch P v l[i]).foldl mb_rch (mb_ac P v l i) := by
  unfold mb_ac
  rw [← List.take_append_getElem hi, List.flatMap_append, List.foldl_append, List.flatMap_cons, List.flatMap_nil, List.append_nil]
theorem mb_ac_e (P : mb_P) (v : Nat) (l : List mb_Nd) : mb_ac P v l l.length = mb_nx P v l := by
  unfold mb_ac mb_nx
  rw [List.take_length]
theorem mb_ac_len (P : mb_P) (v : Nat) (l : List mb_Nd) (i : Nat) : (mb_ac P v l i).length ≤ 2 * i := by
  have h := mb_nx_len P v (l.take i)
  rw [List.length_take] at h
  unfold mb_nx at h
  unfold mb_ac
  omega
theorem mb_ac_wf {P : mb_P} (hP : mb_Pok P) {v : Nat} (hv : v < 5) {l : List mb_Nd} (h : mb_wf v l) (i : Nat) : mb_wf (v + 1) (mb_ac P v l i) :=
  mb_fold_wf hP hv (fun m hm => h m (List.mem_of_mem_take hm))
section
variable {fn fw fi fo mi mo sz ns cu cs ex bv bt : Int32} {a1 a2 a3 a4 a5 a6 a7 a8 a9 a10 a11 a12 a13 a14 a15 a16 a17 : Nat → Int32}
theorem mb_run86 {post : Int32 → St2 → Prop} {J7 : Int32 → Int32 → Int32 → Int32 → Int32 → Int32 → Int32 → Int32 → Int32 → Int32 → Int32 → Int32 → Int32 → Int32 → (Nat → Int32) → (Nat → Int32) → (Nat → Int32) → (Nat → Int32) → (Nat → Int32) → (Nat → Int32) → (Nat → Int32) → (Nat → Int32) → (Nat → Int32) → (Nat → Int32) → (Nat → Int32) → (Nat → Int32) → (Nat → Int32) → (Nat → Int32) → (Nat → Int32) → (Nat → Int32) → (Nat → Int32) → Prop} {x1 : Int32} {m v w : Nat} {l : List mb_Nd} (hm : m ≤ 1) (hv : v < 5) (hw : 1 ≤ w) (hw2 : w ≤ 64) (hl : l.length ≤ 64) (hs : sz = nI l.length) (wf : mb_wf (v + 1) l) (h3 : mb_m3 l a4 a5 a6)
    (H1 : l.length ≤ w → J7 (nI (v + 1)) fn fw fi fo mi mo sz ns cu cs ex bv bt a1 a2 a3 a4 a5 a6 a7 a8 a9 a10 a11 a12 a13 a14 a15 a16 a17)
    (H2 : w < l.length → ∀ l' b4 b5 b6, l'.length = w → mb_wf (v + 1) l' → mb_m3 l' b4 b5 b6 → (m = 0 → ∀ nd, nd ∈ l' → nd ∈ l) → (m ≠ 0 → mb_dom l l') → J7 (nI (v + 1)) fn fw fi fo mi mo (nI w) ns cu cs 0 bv bt a1 a2 a3 b4 b5 b6 a7 a8 a9 a10 a11 a12 a13 a14 a15 a16 a17) :
    wX_run_86 post J7 x1 (nI m) (nI v) (nI w) fn fw fi fo mi mo sz ns cu cs ex bv bt a1 a2 a3 a4 a5 a6 a7 a8 a9 a10 a11 a12 a13 a14 a15 a16 a17 := by
  unfold wX_run_86
  refine pk_le l.length w (fun z => nm_r (nI_1 v) (H1 z)) (fun z => ?_) hs
  refine mb_sort hl hs (fun nd hn => by have := (wf nd hn).2.1; omega) h3 (fun L b4 b5 b6 g1 g2 g3 g4 => ?_)
  refine pk_eq m 0 (fun e => nm_r (nI_1 v) ?_) (fun e => ?_)
  · exact H2 z (L.take w) b4 b5 b6 (by rw [List.length_take]; omega) (fun nd hn => wf nd (g2.mem_iff.mp (List.mem_of_mem_take hn))) ⟨mb_m_take w g4.1, mb_m_take w g4.2.1, mb_m_take w g4.2.2⟩ (fun _ nd hn => g2.mem_iff.mp (List.mem_of_mem_take hn)) (fun q => absurd e q)
  · refine mb_merge (l := L) hw (by omega) (by omega) (by rw [g1]; exact hs) (fun nd hn => (wf nd (g2.mem_iff.mp hn)).1) g4.1 (fun c4 S s1 s2 s3 s4 => nm_r (nI_1 v) ?_)
    obtain ⟨k1, k2, k3⟩ := mb_mg hw (by omega) g2 (by rw [g1]; exact g3) s1 s2 wf
    have hw1 : w - 1 < L.length := by omega
    refine H2 z _ c4 b5 b6 k1 k2 ⟨mb_m_take w ?_, mb_m_take w (mb_m_set' hw1 g4.2.1 rfl), mb_m_take w (mb_m_set' hw1 g4.2.2 rfl)⟩ (fun q => absurd q e) (fun _ => k3)
    intro i hi
    have hi' : i < L.length := by simpa using hi
    rw [List.getElem_set]
    by_cases c : w - 1 = i
    · rw [if_pos c, ← c, s3]
    · rw [if_neg c, s4 i (fun q => c q.symm)]
      exact g4.1 i hi'
theorem mb_run39 {post : Int32 → St2 → Prop} {J7 : Int32 → Int32 → Int32 → Int32 → Int32 → Int32 → Int32 → Int32 → Int32 → Int32 → Int32 → Int32 → Int32 → Int32 → (Nat → Int32) → (Nat → Int32) → (Nat → Int32) → (Nat → Int32) → (Nat → Int32) → (Nat → Int32) → (Nat → Int32) → (Nat → Int32) → (Nat → Int32) → (Nat → Int32) → (Nat → Int32) → (Nat → Int32) → (Nat → Int32) → (Nat → Int32) → (Nat → Int32) → (Nat → Int32) → (Nat → Int32) → Prop} {P : mb_P} (hP : mb_Pok P) (ob : mb_ob P mi mo a1 a3) {lv v w : Nat} {x2 : Int32} {l : List mb_Nd} (hv : v < 5) (hlv : lv ≤ 5) (hl : l.length ≤ 31) (hs : sz = nI l.length) (ew : fw = nI w) (hw : w ≤ 16) (wf : mb_wf v l) (h3 : mb_m3 l a4 a5 a6)
    (H : ∀ b4 b5 b6 b7 b8 b9, mb_m3 (mb_nx P v l) b4 b5 b6 → wX_run_86 post J7 (nI lv) x2 (nI v) (nI (if v = lv ∧ w < 2 then 2 else w)) fn fw fi fo mi mo (nI (mb_nx P v l).length) (nI (mb_nx P v l).length) cu cs ex bv bt a1 a2 a3 b4 b5 b6 b7 b8 b9 a10 a11 a12 a13 a14 a15 a16 a17) :
    ∃ fu, wX_run_39 post J7 (nI lv) x2 (nI v) fu 0 fn fw fi fo mi mo sz 0 cu cs ex bv bt a1 a2 a3 a4 a5 a6 a7 a8 a9 a10 a11 a12 a13 a14 a15 a16 a17 := by
  subst hs ew
  refine pk_loop (fun k i (s : Int32 × (Nat → Int32) × (Nat → Int32) × (Nat → Int32)) => wX_run_39 post J7 (nI lv) x2 (nI v) k (nI i) fn (nI w) fi fo mi mo (nI l.length) s.1 cu cs ex bv bt a1 a2 a3 a4 a5 a6 s.2.1 s.2.2.1 s.2.2.2 a10 a11 a12 a13 a14 a15 a16 a17) (fun i s => s.1 = nI (mb_ac P v l i).length ∧ mb_m3 (mb_ac P v l i) s.2.1 s.2.2.1 s.2.2.2) l.length 0 (0, a7, a8, a9) (by omega) ?_ ?_ ?_
  · rw [mb_ac_0]
    exact ⟨rfl, mb_m_nil, mb_m_nil, mb_m_nil⟩
  · intro k s hI
    obtain ⟨e1, e2⟩ := hI
    rw [mb_ac_e] at e1 e2
    refine pk_le l.length l.length (fun _ => ?_) (fun z => absurd z (by omega))
    have hlen := mb_nx_len P v l
    refine mb_takeLayer (n := (mb_nx P v l).length) (by omega) e1 (fun b4 b5 b6 g4 g5 g6 => ?_)
    have t := H b4 b5 b6 s.2.1 s.2.2.1 s.2.2.2 ⟨mb_m_eq e2.1 g4, mb_m_eq e2.2.1 g5, mb_m_eq e2.2.2 g6⟩
    refine pk_eq v lv (fun e => pk_le 2 w (fun z => ?_) (fun z => ?_)) (fun e => ?_)
    · rw [if_neg (by omega)] at t
      exact t
    · rw [if_pos ⟨e, z⟩] at t
      exact t
    · rw [if_neg (by omega)] at t
      exact t
  · intro k i s hi hI hc
    obtain ⟨e1, e2⟩ := hI
    have hlen := mb_ac_len P v l i
    refine pk_le l.length i (fun z => absurd z (by omega)) (fun _ => ?_)
    refine mb_expand hP hv (by omega) (nd := l[i]) (acc := mb_ac P v l i) (by omega) e1 (mb_ac_wf hP hv wf i) (wf _ (List.getElem_mem hi)) ob (mb_m3_1 h3 hi) (mb_m3_2 h3 hi) (mb_m3_3 h3 hi) e2 (fun b7 b8 b9 g => nm_r (nI_1 i) (hc (nI ((mb_ch P v l[i]).foldl mb_rch (mb_ac P v l i)).length, b7, b8, b9) ⟨?_, ?_⟩))
    · show nI ((mb_ch P v l[i]).foldl mb_rch (mb_ac P v l i)).length = nI (mb_ac P v l (i + 1)).length
      rw [mb_ac_s P v l hi]
    · show mb_m3 (mb_ac P v l (i + 1)) b7 b8 b9
      rw [mb_ac_s P v l hi]
      exact g
theorem mb_run161 {post : Int32 → St2 → Prop} {J : Int32 → Int32 → Int32 → Int32 → Prop} {m i x : Nat} {t top : Int32} (hm : m ≤ 1) (hi : i < 64) (hx : x < 1000000) (e5 : a5 i = nI x) (e6 : a6 i = t)
    (H : ∀ bv' bt', (m = 0 → bv.toInt ≤ bv'.toInt ∧ (x : Int) ≤ bv'.toInt ∧ ((bv' = bv ∧ bt' = bt) ∨ (bv' = nI x ∧ bt' = t))) → (m ≠ 0 → bv' = bv ∧ bt' = bt) → J top (nI (i + 1)) bv' bt') : wX_run_161 post J (nI m) top (nI i) fn fw fi fo mi mo sz ns cu cs ex bv bt a1 a2 a3 a4 a5 a6 a7 a8 a9 a10 a11 a12 a13 a14 a15 a16 a17 := by
  have p : vp_in (nI i) 64 := pk_in i 64 hi
  have ti : (nI x).toInt = (x : Int) := nI_toInt (by omega)
  unfold wX_run_161
  rw [nI_clamp (show i < 2 ^ 31 by omega), e5, e6]
  refine pk_eq m 0 (fun e => ⟨p, br_c (fun z => nm_r (nI_1 i) (H bv bt (fun _ => ⟨Int.le_refl _, ?_, Or.inl ⟨rfl, rfl⟩⟩) (fun q => absurd e q))) (fun z => ⟨p, nm_e ⟨p, nm_e (nm_r (nI_1 i) (H (nI x) t (fun _ => ⟨?_, ?_, Or.inr ⟨rfl, rfl⟩⟩) (fun q => absurd e q)))⟩⟩)⟩) (fun e => nm_r (nI_1 i) (H bv bt (fun q => absurd q e) (fun _ => ⟨rfl, rfl⟩)))
  · have z' := Int32.le_iff_toInt_le.mp z
    rw [ti] at z'
    exact z'
  · have z' : ¬ (nI x).toInt ≤ bv.toInt := fun q => z (Int32.le_iff_toInt_le.mpr q)
    rw [ti] at z' ⊢
    omega
  · rw [ti]
    exact Int.le_refl _
theorem mb_run133 {post : Int32 → St2 → Prop} {m : Nat} {l : List mb_Nd} (hm : m ≤ 1) (hl : l.length ≤ 64) (hs : sz = nI l.length) (wf : ∀ nd, nd ∈ l → nd.2.1 < 1000000) (h3 : mb_m3 l a4 a5 a6)
    (H : ∀ top bv' bt', (∀ nd, nd ∈ l → (nd.2.1 : Int) ≤ top.toInt) → (m = 0 → bv.toInt ≤ bv'.toInt ∧ (∀ nd, nd ∈ l → (nd.2.1 : Int) ≤ bv'.toInt) ∧ ((bv' = bv ∧ bt' = bt) ∨ ∃ nd, nd ∈ l ∧ bv' = nI nd.2.1 ∧ bt' = nI nd.2.2)) → (m ≠ 0 → bv' = bv ∧ bt' = bt) → post top (fn, fw, fi, fo, mi, mo, sz, ns, cu, cs, ex, bv', bt', a1, a2, a3, a4, a5, a6, a7, a8, a9, a10, a11, a12, a13, a14, a15, a16, a17)) :
    ∃ fu, wX_run_133 post (nI m) fn fw fi fo mi mo sz ns cu cs ex a1 a2 a3 a4 a5 a6 a7 a8 a9 a10 a11 a12 a13 a14 a15 a16 a17 fu (-1) 0 bv bt := by
  refine pk_loop (fun k i (s : Int32 × Int32 × Int32) => wX_run_133 post (nI m) fn fw fi fo mi mo sz ns cu cs ex a1 a2 a3 a4 a5 a6 a7 a8 a9 a10 a11 a12 a13 a14 a15 a16 a17 k s.1 (nI i) s.2.1 s.2.2)
    (fun i s => (∀ j (hj : j < l.length), j < i → (l[j].2.1 : Int) ≤ s.1.toInt) ∧ (m = 0 → bv.toInt ≤ s.2.1.toInt ∧ (∀ j (hj : j < l.length), j < i → (l[j].2.1 : Int) ≤ s.2.1.toInt) ∧ ((s.2.1 = bv ∧ s.2.2 = bt) ∨ ∃ nd, nd ∈ l ∧ s.2.1 = nI nd.2.1 ∧ s.2.2 = nI nd.2.2)) ∧ (m ≠ 0 → s.2.1 = bv ∧ s.2.2 = bt)) l.length 0 (-1, bv, bt) (by omega)
    ⟨fun j _ z => absurd z (by omega), fun _ => ⟨Int.le_refl _, fun j _ z => absurd z (by omega), Or.inl ⟨rfl, rfl⟩⟩, fun _ => ⟨rfl, rfl⟩⟩ ?_ ?_
  · intro k s hI
    obtain ⟨i1, i2, i3⟩ := hI
    have mem : ∀ (y : Int), (∀ j (hj : j < l.length), j < l.length → (l[j].2.1 : Int) ≤ y) → ∀ nd, nd ∈ l → (nd.2.1 : Int) ≤ y := by
      intro y hy nd hn
      obtain ⟨j, hj, e⟩ := List.mem_iff_getElem.mp hn
      rw [← e]
      exact hy j hj hj
    exact pk_le l.length l.length (fun _ => H s.1 s.2.1 s.2.2 (mem _ i1) (fun e => ⟨(i2 e).1, mem _ (i2 e).2.1, (i2 e).2.2⟩) i3) (fun z => absurd z (by omega)) hs
  · intro k i s hi hI hc
    obtain ⟨i1, i2, i3⟩ := hI
    have p : vp_in (nI i) 64 := pk_in i 64 (by omega)
    have hx := wf _ (List.getElem_mem hi)
    have ti : (nI l[i].2.1).toInt = (l[i].2.1 : Int) := nI_toInt (by omega)
    have key : ∀ top : Int32, (∀ j (hj : j < l.length), j < i + 1 → (l[j].2.1 : Int) ≤ top.toInt) → wX_run_161 post (wX_run_133 post (nI m) fn fw fi fo mi mo sz ns cu cs ex a1 a2 a3 a4 a5 a6 a7 a8 a9 a10 a11 a12 a13 a14 a15 a16 a17 k) (nI m) top (nI i) fn fw fi fo mi mo sz ns cu cs ex s.2.1 s.2.2 a1 a2 a3 a4 a5 a6 a7 a8 a9 a10 a11 a12 a13 a14 a15 a16 a17 := by
      intro top ht
      refine mb_run161 hm (by omega) hx (mb_m3_2 h3 hi) (mb_m3_3 h3 hi) (fun bv' bt' q0 q1 => hc (top, bv', bt') ⟨ht, fun e => ?_, fun e => ?_⟩)
      · obtain ⟨r1, r2, r3⟩ := i2 e
        obtain ⟨t1, t2, t3⟩ := q0 e
        refine ⟨Int.le_trans r1 t1, fun j hj hji => ?_, ?_⟩
        · by_cases c : j = i
          · subst c; exact t2
          · exact Int.le_trans (r2 j hj (by omega)) t1
        · rcases t3 with ⟨y1, y2⟩ | ⟨y1, y2⟩
          · show (bv' = bv ∧ bt' = bt) ∨ ∃ nd, nd ∈ l ∧ bv' = nI nd.2.1 ∧ bt' = nI nd.2.2
            rw [y1, y2]
            exact r3
          · exact Or.inr ⟨l[i], List.getElem_mem hi, y1, y2⟩
      · obtain ⟨y1, y2⟩ := q1 e
        show bv' = bv ∧ bt' = bt
        rw [y1, y2]
        exact i3 e
    refine pk_le l.length i (fun z => absurd z (by omega)) (fun _ => ⟨p, ?_⟩) hs
    rw [nI_clamp (show i < 2 ^ 31 by omega), mb_m3_2 h3 hi]
    refine br_c (fun z => key s.1 (fun j hj hji => ?_)) (fun z => ⟨p, nm_e (key _ (fun j hj hji => ?_))⟩)
    · by_cases c : j = i
      · subst c
        have z' := Int32.le_iff_toInt_le.mp z
        rw [ti] at z'
        exact z'
      · exact i1 j hj (by omega)
    · have z' : ¬ (nI l[i].2.1).toInt ≤ s.1.toInt := fun q => z (Int32.le_iff_toInt_le.mpr q)
      rw [ti] at z' ⊢
      by_cases c : j = i
      · subst c; exact Int.le_refl _
      · have := i1 j hj (by omega)
        omega
end
end
section
/-- layer l at level v of the run from node r at level lv -/
def mb_RI (P : mb_P) (lv v : Nat) (r : mb_Nd) (m : Nat) (ex : Int32) (l : List mb_Nd) : Prop :=
  l.length ≤ 16 ∧ mb_wf v l ∧ (¬ ex = 0 → l.length ≤ 2 ^ (v - lv)) ∧ ((¬ ex = 0 ∨ m ≠ 0) → mb_cv (mb_A P lv r) (mb_Lv P v l)) ∧
  ((¬ ex = 0 ∨ m = 0) → ∀ p, p ∈ mb_Lv P v l → p ∈ mb_A P lv r) ∧ (v ≤ lv + 1 → ¬ ex = 0)
def mb_cut (P : mb_P) (lv c : Nat) (r : mb_Nd) (l : List mb_Nd) : Prop :=
  lv ≤ c ∧ c ≤ 4 ∧ l.length ≤ 2 ^ (c - lv) ∧ l.length ≤ 16 ∧ mb_wf c l ∧ mb_cv (mb_A P lv r) (mb_Lv P c l) ∧ ∀ p, p ∈ mb_Lv P c l → p ∈ mb_A P lv r
def mb_CI (P : mb_P) (lv v : Nat) (r : mb_Nd) (m : Nat) (cu cs : Int32) (a b d : Nat → Int32) : Prop :=
  m ≠ 0 → v = lv ∨ ∃ c l, cu = nI c ∧ cs = nI l.length ∧ mb_m3 l a b d ∧ mb_cut P lv c r l ∧ (lv + 2 ≤ v → lv < c)
theorem mb_Lv1 (P : mb_P) (v : Nat) (r : mb_Nd) : mb_Lv P v [r] = mb_A P v r := by
  unfold mb_Lv
  rw [List.flatMap_cons, List.flatMap_nil, List.append_nil]
theorem mb_RI_0 {P : mb_P} {lv m : Nat} {r : mb_Nd} (h : r.1 < 32 ∧ r.2.1 ≤ 70000 * lv ∧ r.2.2 < 2 ^ lv) : mb_RI P lv lv r m 1 [r] := by
  refine ⟨by simp, fun nd hn => ?_, fun _ => ?_, fun _ => ?_, fun _ p hp => ?_, fun _ => by decide⟩
  · rw [List.mem_singleton.mp hn]
    exact h
  · rw [Nat.sub_self]
    simp
  · rw [mb_Lv1]
    exact mb_cv_r _
  · rw [mb_Lv1] at hp
    exact hp
theorem mb_pw {a b n k : Nat} (h : a ≤ b) (hn : n ≤ 2 * k) (hk : k ≤ 2 ^ (b - a)) : n ≤ 2 ^ (b + 1 - a) := by
  rw [show b + 1 - a = (b - a) + 1 by omega, Nat.pow_succ]
  omega
theorem mb_RI_1 {P : mb_P} (hP : mb_Pok P) {lv v m : Nat} {r : mb_Nd} {ex : Int32} {l : List mb_Nd} (h : mb_RI P lv v r m ex l) (hv : v < 5) (hlv : lv ≤ v) (hn : (mb_nx P v l).length ≤ 16) : mb_RI P lv (v + 1) r m ex (mb_nx P v l) := by
  obtain ⟨h1, h2, h3, h4, h5, h6⟩ := h
  exact ⟨hn, mb_fold_wf hP hv h2, fun e => mb_pw hlv (mb_nx_len P v l) (h3 e), fun e => mb_cv_t (h4 e) (mb_nx_cv P hv l), fun e p hp => h5 e p (mb_nx_sub P hv l p hp), fun e => h6 (by omega)⟩
theorem mb_RI_2 {P : mb_P} {lv v m : Nat} {r : mb_Nd} {ex : Int32} {l l' : List mb_Nd} (h : mb_RI P lv v r m ex l) (hv : v < 5) (hlv : lv < v) (hn : l'.length ≤ 16) (wf : mb_wf (v + 1) l') (d0 : m = 0 → ∀ nd, nd ∈ l' → nd ∈ mb_nx P v l) (d1 : m ≠ 0 → mb_dom (mb_nx P v l) l') : mb_RI P lv (v + 1) r m 0 l' := by
  obtain ⟨h1, h2, h3, h4, h5, h6⟩ := h
  refine ⟨hn, wf, fun e => absurd rfl e, fun e => ?_, fun e p hp => ?_, fun e => absurd e (by omega)⟩
  · have e' : m ≠ 0 := by
      rcases e with e | e
      · exact absurd rfl e
      · exact e
    exact mb_cv_t (h4 (Or.inr e')) (mb_cv_t (mb_nx_cv P hv l) (mb_dom_cv (d1 e')))
  · have e' : m = 0 := by
      rcases e with e | e
      · exact absurd rfl e
      · exact e
    exact h5 (Or.inr e') p (mb_nx_sub P hv l p (mb_Lv_sub (d0 e') p hp))
theorem mb_L5 {P : mb_P} {l : List mb_Nd} {p : Nat × Nat} : p ∈ mb_Lv P 5 l ↔ ∃ m, m ∈ l ∧ p = (m.2.2, m.2.1) := by
  rw [mb_Lv_mem]
  constructor
  · rintro ⟨m, hm, c, hc, e⟩
    rw [mb_C5] at hc
    rw [List.mem_singleton.mp hc] at e
    exact ⟨m, hm, e.symm⟩
  · rintro ⟨m, hm, e⟩
    exact ⟨m, hm, (0, 0), by rw [mb_C5]; exact List.mem_singleton.mpr rfl, e.symm⟩
section
variable {fn fw fi fo mi mo sz ns cu cs ex bv bt : Int32} {a1 a2 a3 a4 a5 a6 a7 a8 a9 a10 a11 a12 a13 a14 a15 a16 a17 : Nat → Int32}
theorem mb_run7 {post : Int32 → St2 → Prop} {P : mb_P} (hP : mb_Pok P) (ob : mb_ob P mi mo a1 a3) {lv w m : Nat} {r : mb_Nd} (hm : m ≤ 1) (hlv5 : lv ≤ 5) (en : fn = 5) (ew : fw = nI w) (hw1 : 1 ≤ w) (hw : w ≤ 16)
    (H : ∀ (sz ns cu cs ex : Int32) (a4 a5 a6 a7 a8 a9 a10 a11 a12 : Nat → Int32) (l : List mb_Nd), sz = nI l.length → mb_m3 l a4 a5 a6 → mb_RI P lv 5 r m ex l → mb_CI P lv 5 r m cu cs a10 a11 a12 → ∃ fu, wX_run_133 post (nI m) fn fw fi fo mi mo sz ns cu cs ex a1 a2 a3 a4 a5 a6 a7 a8 a9 a10 a11 a12 a13 a14 a15 a16 a17 fu (-1) 0 bv bt) :
    ∀ (d v : Nat) (sz ns cu cs ex : Int32) (a4 a5 a6 a7 a8 a9 a10 a11 a12 : Nat → Int32) (l : List mb_Nd), v + d = 5 → lv ≤ v → sz = nI l.length → mb_m3 l a4 a5 a6 → mb_RI P lv v r m ex l → mb_CI P lv v r m cu cs a10 a11 a12 → wX_run_7 post (nI lv) (nI m) (d + 1) (nI v) fn fw fi fo mi mo sz ns cu cs ex bv bt a1 a2 a3 a4 a5 a6 a7 a8 a9 a10 a11 a12 a13 a14 a15 a16 a17 := by
  intro d
  induction d with
  | zero =>
    intro v sz ns cu cs ex a4 a5 a6 a7 a8 a9 a10 a11 a12 l hd hlv hs h3 hR hC
    have e5 : v = 5 := by omega
    subst e5
    exact pk_le 5 5 (fun _ => H sz ns cu cs ex a4 a5 a6 a7 a8 a9 a10 a11 a12 l hs h3 hR hC) (fun z => absurd z (by omega)) en
  | succ d ih =>
    intro v sz ns cu cs ex a4 a5 a6 a7 a8 a9 a10 a11 a12 l hd hlv hs h3 hR hC
    have hv : v < 5 := by omega
    have K : ∀ (cu cs : Int32) (a10 a11 a12 : Nat → Int32), mb_CI P lv (v + 1) r m cu cs a10 a11 a12 → ∃ fu, wX_run_39 post (wX_run_7 post (nI lv) (nI m) (d + 1)) (nI lv) (nI m) (nI v) fu 0 fn fw fi fo mi mo sz 0 cu cs ex bv bt a1 a2 a3 a4 a5 a6 a7 a8 a9 a10 a11 a12 a13 a14 a15 a16 a17 := by
      intro cu cs a10 a11 a12 hC'
      have hlen := mb_nx_len P v l
      have hl16 := hR.1
      refine mb_run39 hP ob hv hlv5 (by omega) hs ew hw hR.2.1 h3 (fun b4 b5 b6 b7 b8 b9 g => ?_)
      by_cases q : v = lv ∧ w < 2
      · rw [if_pos q]
        have hl1 : l.length ≤ 1 := by
          have := hR.2.2.1 (hR.2.2.2.2.2 (by omega))
          rw [q.1, Nat.sub_self] at this
          exact this
        exact mb_run86 (l := mb_nx P v l) hm hv (by omega) (by omega) (by omega) rfl (mb_fold_wf hP hv hR.2.1) g
          (fun z => ih (v + 1) _ _ cu cs ex b4 b5 b6 b7 b8 b9 a10 a11 a12 (mb_nx P v l) (by omega) (by omega) rfl g (mb_RI_1 hP hR hv hlv (by omega)) hC')
          (fun z => absurd z (by omega))
      · rw [if_neg q]
        refine mb_run86 (l := mb_nx P v l) hm hv hw1 (by omega) (by omega) rfl (mb_fold_wf hP hv hR.2.1) g
          (fun z => ih (v + 1) _ _ cu cs ex b4 b5 b6 b7 b8 b9 a10 a11 a12 (mb_nx P v l) (by omega) (by omega) rfl g (mb_RI_1 hP hR hv hlv (by omega)) hC')
          (fun z l' c4 c5 c6 k1 k2 k3 k4 k5 => ih (v + 1) _ _ cu cs 0 c4 c5 c6 b7 b8 b9 a10 a11 a12 l' (by omega) (by omega) (by rw [k1]) k3 (mb_RI_2 hR hv ?_ (by omega) k2 k4 k5) hC')
        by_cases c : v = lv
        · have hl1 : l.length ≤ 1 := by
            have := hR.2.2.1 (hR.2.2.2.2.2 (by omega))
            rw [c, Nat.sub_self] at this
            exact this
          omega
        · omega
    refine pk_le 5 v (fun z => absurd z (by omega)) (fun _ => ?_) en
    refine br_c (fun e0 => K cu cs a10 a11 a12 (fun hm0 => ?_)) (fun e0 => pk_eq m 0 (fun e => K cu cs a10 a11 a12 (fun hm0 => absurd e hm0)) (fun e => ?_))
    · have hv2 : ¬ v ≤ lv + 1 := fun q => hR.2.2.2.2.2 q e0
      rcases hC hm0 with q | ⟨c, l', c1, c2, c3, c4, c5⟩
      · exact absurd q (by omega)
      · exact Or.inr ⟨c, l', c1, c2, c3, c4, fun _ => c5 (by omega)⟩
    · have hl16 := hR.1
      refine mb_keepCut (n := l.length) (by omega) hs (fun b4 b5 b6 g4 g5 g6 => ?_)
      have t := K (nI v) (nI l.length) b4 b5 b6 (fun _ => Or.inr ⟨v, l, rfl, rfl, ⟨mb_m_eq h3.1 g4, mb_m_eq h3.2.1 g5, mb_m_eq h3.2.2 g6⟩, ⟨hlv, by omega, hR.2.2.1 e0, hl16, hR.2.1, hR.2.2.2.1 (Or.inl e0), hR.2.2.2.2.1 (Or.inl e0)⟩, fun _ => by omega⟩)
      rw [hs] at t
      exact t
theorem mb_run {post : Int32 → St2 → Prop} {P : mb_P} (hP : mb_Pok P) (ob : mb_ob P mi mo a1 a3) {lv w m : Nat} {r : mb_Nd} (hm : m ≤ 1) (hlv5 : lv ≤ 5) (en : fn = 5) (ew : fw = nI w) (hw1 : 1 ≤ w) (hw : w ≤ 16)
    (hr : r.1 < 32 ∧ r.2.1 ≤ 70000 * lv ∧ r.2.2 < 2 ^ lv) (hs : sz = 1) (h3 : mb_m3 [r] a4 a5 a6)
    (H : ∀ (top sz ns cu cs ex bv' bt' : Int32) (a4 a5 a6 a7 a8 a9 a10 a11 a12 : Nat → Int32),
      ((¬ ex = 0 ∨ m ≠ 0) → ∀ p, p ∈ mb_A P lv r → (p.2 : Int) ≤ top.toInt) →
      (m = 0 → bv.toInt ≤ bv'.toInt ∧ ((bv' = bv ∧ bt' = bt) ∨ ∃ p, p ∈ mb_A P lv r ∧ bv' = nI p.2 ∧ bt' = nI p.1) ∧ (¬ ex = 0 → ∀ p, p ∈ mb_A P lv r → (p.2 : Int) ≤ bv'.toInt) ∧ (ex = 0 → lv ≤ 3)) →
      (m ≠ 0 → bv' = bv ∧ bt' = bt ∧ (lv ≤ 3 → ∃ c l, cu = nI c ∧ cs = nI l.length ∧ mb_m3 l a10 a11 a12 ∧ mb_cut P lv c r l ∧ lv < c)) →
      post top (fn, fw, fi, fo, mi, mo, sz, ns, cu, cs, ex, bv', bt', a1, a2, a3, a4, a5, a6, a7, a8, a9, a10, a11, a12, a13, a14, a15, a16, a17)) :
    wpX_run post (fn, fw, fi, fo, mi, mo, sz, ns, cu, cs, ex, bv, bt, a1, a2, a3, a4, a5, a6, a7, a8, a9, a10, a11, a12, a13, a14, a15, a16, a17) (nI lv) (nI m) := by
  unfold wpX_run
  refine ⟨(5 - lv) + 1, mb_run7 (r := r) hP ob hm hlv5 en ew hw1 hw (fun sz ns cu cs ex a4 a5 a6 a7 a8 a9 a10 a11 a12 l hs h3 hR hC => ?_) (5 - lv) lv sz ns cu cs 1 a4 a5 a6 a7 a8 a9 a10 a11 a12 [r] (by omega) (Nat.le_refl _) hs h3 (mb_RI_0 hr) (fun _ => Or.inl rfl)⟩
  have hl16 := hR.1
  refine mb_run133 hm (by omega) hs (fun nd hn => by have := (hR.2.1 nd hn).2.1; omega) h3 (fun top bv' bt' t1 t2 t3 => H top sz ns cu cs ex bv' bt' a4 a5 a6 a7 a8 a9 a10 a11 a12 ?_ ?_ ?_)
  · intro e p hp
    obtain ⟨q, hq, le⟩ := hR.2.2.2.1 e p hp
    obtain ⟨nd, hn, eq⟩ := mb_L5.mp hq
    have := t1 nd hn
    rw [eq] at le
    have le' : p.2 ≤ nd.2.1 := le
    omega
  · intro e
    obtain ⟨s1, s2, s3⟩ := t2 e
    refine ⟨s1, ?_, fun e0 p hp => ?_, fun e0 => ?_⟩
    · rcases s3 with s3 | ⟨nd, hn, y1, y2⟩
      · exact Or.inl s3
      · exact Or.inr ⟨(nd.2.2, nd.2.1), hR.2.2.2.2.1 (Or.inr e) _ (mb_L5.mpr ⟨nd, hn, rfl⟩), y1, y2⟩
    · obtain ⟨q, hq, le⟩ := hR.2.2.2.1 (Or.inl e0) p hp
      obtain ⟨nd, hn, eq⟩ := mb_L5.mp hq
      have := s2 nd hn
      rw [eq] at le
      have le' : p.2 ≤ nd.2.1 := le
      omega
    · rcases Nat.lt_or_ge 3 lv with q | q
      · exact absurd e0 (hR.2.2.2.2.2 (by omega))
      · exact q
  · intro e
    refine ⟨(t3 e).1, (t3 e).2, fun q => ?_⟩
    rcases hC e with c | ⟨c, l', c1, c2, c3, c4, c5⟩
    · exact absurd c (by omega)
    · exact ⟨c, l', c1, c2, c3, c4, c5 (by omega)⟩
end
end
section
def mb_m4 (st : List (Nat × mb_Nd)) (a b c d : Nat → Int32) : Prop := mb_m st (fun e => e.1) a ∧ mb_m st (fun e => e.2.1) b ∧ mb_m st (fun e => e.2.2.1) c ∧ mb_m st (fun e => e.2.2.2) d
theorem mb_m4_app {st : List (Nat × mb_Nd)} {a b c d : Nat → Int32} {k : Nat} {e : Nat × mb_Nd} {x y z t : Int32} (h : mb_m4 st a b c d) (hk : k = st.length) (hx : x = nI e.1) (hy : y = nI e.2.1) (hz : z = nI e.2.2.1) (ht : t = nI e.2.2.2) : mb_m4 (st ++ [e]) (upd a k x) (upd b k y) (upd c k z) (upd d k t) :=
  ⟨mb_m_app h.1 hk hx, mb_m_app h.2.1 hk hy, mb_m_app h.2.2.1 hk hz, mb_m_app h.2.2.2 hk ht⟩
theorem mb_m_pre {α : Type} {l l' : List α} {f : α → Nat} {a : Nat → Int32} (h : mb_m (l ++ l') f a) : mb_m l f a := by
  intro i hi
  have t := h i (by rw [List.length_append]; omega)
  rw [List.getElem_append_left hi] at t
  exact t
theorem mb_m_last {α : Type} {l : List α} {e : α} {f : α → Nat} {a : Nat → Int32} (h : mb_m (l ++ [e]) f a) : a l.length = nI (f e) := by
  have t := h l.length (by rw [List.length_append]; simp)
  rw [t]
  simp
def mb_W (st : List (Nat × mb_Nd)) : Nat := (st.map (fun e => 2 ^ (6 - e.1) - 1)).sum
theorem mb_W_nil : mb_W [] = 0 := rfl
theorem mb_W_cons (e : Nat × mb_Nd) (st : List (Nat × mb_Nd)) : mb_W (e :: st) = (2 ^ (6 - e.1) - 1) + mb_W st := by
  unfold mb_W
  rw [List.map_cons, List.sum_cons]
theorem mb_W_app : ∀ (a b : List (Nat × mb_Nd)), mb_W (a ++ b) = mb_W a + mb_W b
  | [], b => by rw [List.nil_append, mb_W_nil, Nat.zero_add]
  | e :: a, b => by
    rw [List.cons_append, mb_W_cons, mb_W_cons, mb_W_app a b, Nat.add_assoc]
theorem mb_W_map (c : Nat) : ∀ l : List mb_Nd, mb_W (l.map (fun nd => (c, nd))) = l.length * (2 ^ (6 - c) - 1)
  | [] => by rw [List.map_nil, mb_W_nil, List.length_nil, Nat.zero_mul]
  | nd :: l => by
    rw [List.map_cons, mb_W_cons, mb_W_map c l, List.length_cons, Nat.succ_mul, Nat.add_comm]
theorem mb_w1 : ∀ v, v < 6 → 1 ≤ 2 ^ (6 - v) - 1 := by decide
theorem mb_W_len : ∀ st : List (Nat × mb_Nd), (∀ e, e ∈ st → e.1 ≤ 5) → st.length ≤ mb_W st
  | [], _ => Nat.zero_le _
  | e :: st, h => by
    have h1 := mb_W_len st (fun x hx => h x (List.mem_cons_of_mem _ hx))
    have h2 := mb_w1 e.1 (by have := h e (List.mem_cons_self ..); omega)
    rw [mb_W_cons, List.length_cons]
    omega
theorem mb_w2 : ∀ lv, lv < 5 → ∀ c, c < 5 → lv < c → 2 ^ (c - lv) * (2 ^ (6 - c) - 1) + 1 ≤ 2 ^ (6 - lv) - 1 := by decide
theorem mb_C_le {P : mb_P} (hP : mb_Pok P) : ∀ (k S : Nat) (p : Nat × Nat), k ≤ 5 → p ∈ mb_cl P k S → p.2 ≤ 70000 * k := by
  intro k
  induction k with
  | zero =>
    intro S p _ hp
    rw [mb_cl] at hp
    rw [List.mem_singleton.mp hp]
    exact Nat.zero_le _
  | succ k ih =>
    intro S p hk hp
    rw [mb_cl, List.mem_append] at hp
    rcases hp with hp | hp
    · by_cases c : P.2.2.1.testBit (4 - k) = true
      · rw [if_pos c] at hp; exact absurd hp (by simp)
      · rw [if_neg c] at hp
        have := ih _ p (by omega) hp
        omega
    · by_cases c : S.testBit (4 - k) = true ∧ P.2.2.2.testBit (4 - k) = false
      · rw [if_pos c] at hp
        obtain ⟨q, hq, e⟩ := List.mem_map.mp hp
        have := ih _ q (by omega) hq
        have g := (hP.1 (4 - k) (by omega)).2
        rw [← e]
        show q.2 + P.2.1 (4 - k) ≤ 70000 * (k + 1)
        omega
      · rw [if_neg c] at hp; exact absurd hp (by simp)
theorem mb_A0 (P : mb_P) (S : Nat) : mb_A P 0 (S, 0, 0) = mb_C P 0 S := by
  unfold mb_A
  have e : (fun p : Nat × Nat => (((S, 0, 0) : mb_Nd).2.2 + p.1, ((S, 0, 0) : mb_Nd).2.1 + p.2)) = id := by
    funext p
    show (0 + p.1, 0 + p.2) = p
    rw [Nat.zero_add, Nat.zero_add]
  rw [e, List.map_id]
/-- the stack of subproblems, the best so far -/
def mb_SI (P : mb_P) (step : Nat) (bv bt : Int32) (st : List (Nat × mb_Nd)) : Prop :=
  step + mb_W st ≤ 63 ∧ (∀ e, e ∈ st → e.1 ≤ 5 ∧ (e.2.1 < 32 ∧ e.2.2.1 ≤ 70000 * e.1 ∧ e.2.2.2 < 2 ^ e.1) ∧ ∀ p, p ∈ mb_A P e.1 e.2 → p ∈ mb_C P 0 31) ∧
  (bv = -1 ∨ ∃ p, p ∈ mb_C P 0 31 ∧ bv = nI p.2 ∧ bt = nI p.1) ∧
  (∀ p, p ∈ mb_C P 0 31 → (p.2 : Int) ≤ bv.toInt ∨ ∃ e, e ∈ st ∧ ∃ q, q ∈ mb_A P e.1 e.2 ∧ p.2 ≤ q.2)
/-- what a search answers -/
def mb_SR (P : mb_P) (bv bt : Int32) : Prop :=
  (bv = -1 ∧ ∀ p, p ∉ mb_C P 0 31) ∨ ∃ p, p ∈ mb_C P 0 31 ∧ bv = nI p.2 ∧ bt = nI p.1 ∧ ∀ q, q ∈ mb_C P 0 31 → q.2 ≤ p.2
theorem mb_SI_0 (P : mb_P) : mb_SI P 0 (-1) 0 [(0, 31, 0, 0)] := by
  refine ⟨by decide, fun e he => ?_, Or.inl rfl, fun p hp => Or.inr ⟨(0, 31, 0, 0), List.mem_singleton.mpr rfl, p, by rw [mb_A0]; exact hp, Nat.le_refl _⟩⟩
  rw [List.mem_singleton.mp he]
  exact ⟨by decide, ⟨by decide, by decide, by decide⟩, fun p hp => by rw [mb_A0] at hp; exact hp⟩
theorem mb_SI_e {P : mb_P} (hP : mb_Pok P) {step : Nat} {bv bt : Int32} (h : mb_SI P step bv bt []) : mb_SR P bv bt := by
  obtain ⟨h1, h2, h3, h4⟩ := h
  have h5 : ∀ p, p ∈ mb_C P 0 31 → (p.2 : Int) ≤ bv.toInt := by
    intro p hp
    rcases h4 p hp with q | ⟨e, he, _⟩
    · exact q
    · exact absurd he (by simp)
  rcases h3 with e | ⟨p, hp, e1, e2⟩
  · refine Or.inl ⟨e, fun p hp => ?_⟩
    have := h5 p hp
    rw [e, show (-1 : Int32).toInt = -1 from by decide] at this
    omega
  · refine Or.inr ⟨p, hp, e1, e2, fun q hq => ?_⟩
    have t := h5 q hq
    have b := mb_C_le hP 5 31 p (by omega) hp
    rw [e1, nI_toInt (by omega)] at t
    omega
theorem mb_SI_pop {P : mb_P} {step : Nat} {bv bt bv' bt' : Int32} {st : List (Nat × mb_Nd)} {e : Nat × mb_Nd} (h : mb_SI P step bv bt (st ++ [e])) (hb : bv.toInt ≤ bv'.toInt)
    (hn : (bv' = bv ∧ bt' = bt) ∨ ∃ p, p ∈ mb_A P e.1 e.2 ∧ bv' = nI p.2 ∧ bt' = nI p.1) (hc : ∀ p, p ∈ mb_A P e.1 e.2 → (p.2 : Int) ≤ bv'.toInt) : mb_SI P (step + 1) bv' bt' st := by
  obtain ⟨h1, h2, h3, h4⟩ := h
  have he : e ∈ st ++ [e] := List.mem_append_right _ (List.mem_singleton.mpr rfl)
  have w := mb_w1 e.1 (by have := (h2 e he).1; omega)
  rw [mb_W_app, mb_W_cons, mb_W_nil] at h1
  refine ⟨by omega, fun x hx => h2 x (List.mem_append_left _ hx), ?_, fun p hp => ?_⟩
  · rcases hn with ⟨y1, y2⟩ | ⟨p, hp, y⟩
    · rw [y1, y2]; exact h3
    · exact Or.inr ⟨p, (h2 e he).2.2 p hp, y⟩
  · rcases h4 p hp with q | ⟨x, hx, q, hq, le⟩
    · exact Or.inl (Int.le_trans q hb)
    · rcases List.mem_append.mp hx with hx | hx
      · exact Or.inr ⟨x, hx, q, hq, le⟩
      · rw [List.mem_singleton.mp hx] at hq
        have := hc q hq
        exact Or.inl (by omega)
theorem mb_SI_psh {P : mb_P} {step c : Nat} {bv bt bv' bt' : Int32} {st : List (Nat × mb_Nd)} {e : Nat × mb_Nd} {l : List mb_Nd} (h : mb_SI P step bv bt (st ++ [e])) (hb : bv.toInt ≤ bv'.toInt)
    (hn : (bv' = bv ∧ bt' = bt) ∨ ∃ p, p ∈ mb_A P e.1 e.2 ∧ bv' = nI p.2 ∧ bt' = nI p.1) (hc : mb_cut P e.1 c e.2 l) (hlt : e.1 < c) :
    mb_SI P (step + 1) bv' bt' (st ++ l.map (fun nd => (c, nd))) ∧ mb_W (st ++ l.map (fun nd => (c, nd))) + 1 ≤ mb_W (st ++ [e]) := by
  obtain ⟨h1, h2, h3, h4⟩ := h
  obtain ⟨c1, c2, c3, c4, c5, c6, c7⟩ := hc
  have he : e ∈ st ++ [e] := List.mem_append_right _ (List.mem_singleton.mpr rfl)
  have w := mb_w2 e.1 (by omega) c (by omega) hlt
  have w' : l.length * (2 ^ (6 - c) - 1) ≤ 2 ^ (c - e.1) * (2 ^ (6 - c) - 1) := Nat.mul_le_mul_right _ c3
  have k : mb_W (st ++ l.map (fun nd => (c, nd))) + 1 ≤ mb_W (st ++ [e]) := by
    rw [mb_W_app, mb_W_app, mb_W_map, mb_W_cons, mb_W_nil]
    omega
  refine ⟨⟨by omega, fun x hx => ?_, ?_, fun p hp => ?_⟩, k⟩
  · rcases List.mem_append.mp hx with hx | hx
    · exact h2 x (List.mem_append_left _ hx)
    · obtain ⟨nd, hd, e'⟩ := List.mem_map.mp hx
      rw [← e']
      refine ⟨by show c ≤ 5; omega, c5 nd hd, fun p hp => (h2 e he).2.2 p (c7 p ?_)⟩
      unfold mb_Lv
      exact List.mem_flatMap.mpr ⟨nd, hd, hp⟩
  · rcases hn with ⟨y1, y2⟩ | ⟨p, hp, y⟩
    · rw [y1, y2]; exact h3
    · exact Or.inr ⟨p, (h2 e he).2.2 p hp, y⟩
  · rcases h4 p hp with q | ⟨x, hx, q, hq, le⟩
    · exact Or.inl (Int.le_trans q hb)
    · rcases List.mem_append.mp hx with hx | hx
      · exact Or.inr ⟨x, List.mem_append_left _ hx, q, hq, le⟩
      · rw [List.mem_singleton.mp hx] at hq
        obtain ⟨q', hq', le'⟩ := c6 q hq
        unfold mb_Lv at hq'
        obtain ⟨nd, hd, hA⟩ := List.mem_flatMap.mp hq'
        exact Or.inr ⟨(c, nd), List.mem_append_right _ (List.mem_map.mpr ⟨nd, hd, rfl⟩), q', hA, by omega⟩
section
variable {fn fw fi fo mi mo sz ns cu cs ex bv bt : Int32} {a1 a2 a3 a4 a5 a6 a7 a8 a9 a10 a11 a12 a13 a14 a15 a16 a17 : Nat → Int32}
theorem mb_start {post : St2 → Prop} {y1 y2 y3 : Int32} (H : post (fn, fw, fi, fo, mi, mo, 1, ns, cu, cs, ex, bv, bt, a1, a2, a3, upd a4 0 y1, upd a5 0 y2, upd a6 0 y3, a7, a8, a9, a10, a11, a12, a13, a14, a15, a16, a17)) : wpX_startLayer post (fn, fw, fi, fo, mi, mo, sz, ns, cu, cs, ex, bv, bt, a1, a2, a3, a4, a5, a6, a7, a8, a9, a10, a11, a12, a13, a14, a15, a16, a17) y1 y2 y3 := by
  unfold wpX_startLayer
  exact nm_e (nm_e (nm_e H))
theorem mb_push {post : St2 → Prop} {J49 : Int32 → Int32 → Int32 → Int32 → Int32 → Int32 → Int32 → Int32 → Int32 → Int32 → Int32 → Int32 → Int32 → Int32 → Int32 → (Nat → Int32) → (Nat → Int32) → (Nat → Int32) → (Nat → Int32) → (Nat → Int32) → (Nat → Int32) → (Nat → Int32) → (Nat → Int32) → (Nat → Int32) → (Nat → Int32) → (Nat → Int32) → (Nat → Int32) → (Nat → Int32) → (Nat → Int32) → (Nat → Int32) → (Nat → Int32) → (Nat → Int32) → Prop} {x2 : Int32} {st : List (Nat × mb_Nd)} {c : Nat} {l : List mb_Nd} (hq : st.length + l.length ≤ 200) (hl : l.length ≤ 16) (ec : cu = nI c) (es : cs = nI l.length) (h4 : mb_m4 st a13 a14 a15 a16) (h3 : mb_m3 l a10 a11 a12)
    (H : ∀ b13 b14 b15 b16, mb_m4 (st ++ l.map (fun nd => (c, nd))) b13 b14 b15 b16 → J49 (nI (st.length + l.length)) (x2 + 1) fn fw fi fo mi mo sz ns cu cs ex bv bt a1 a2 a3 a4 a5 a6 a7 a8 a9 a10 a11 a12 b13 b14 b15 b16 a17) :
    ∃ fu, wX_solve_148 post J49 x2 fn fw fi fo mi mo sz ns cu cs ex bv bt fu (nI st.length) 0 a1 a2 a3 a4 a5 a6 a7 a8 a9 a10 a11 a12 a13 a14 a15 a16 a17 := by
  refine pk_loop (fun k i (s : (Nat → Int32) × (Nat → Int32) × (Nat → Int32) × (Nat → Int32)) => wX_solve_148 post J49 x2 fn fw fi fo mi mo sz ns cu cs ex bv bt k (nI (st.length + i)) (nI i) a1 a2 a3 a4 a5 a6 a7 a8 a9 a10 a11 a12 s.1 s.2.1 s.2.2.1 s.2.2.2 a17) (fun i s => mb_m4 (st ++ (l.take i).map (fun nd => (c, nd))) s.1 s.2.1 s.2.2.1 s.2.2.2) l.length 0 (a13, a14, a15, a16) (by omega) ?_ ?_ ?_
  · rw [List.take_zero, List.map_nil, List.append_nil]
    exact h4
  · intro k s hI
    rw [List.take_length] at hI
    exact pk_le l.length l.length (fun _ => nm_e (H _ _ _ _ hI)) (fun z => absurd z (by omega)) es
  · intro k i s hi hI hc
    have p : vp_in (nI (st.length + i)) 256 := pk_in (st.length + i) 256 (by omega)
    have p' : vp_in (nI i) 64 := pk_in i 64 (by omega)
    have el : st.length + i = (st ++ (l.take i).map (fun nd => (c, nd))).length := by
      rw [List.length_append, List.length_map, List.length_take]
      omega
    refine pk_le l.length i (fun z => absurd z (by omega)) (fun _ => pk_le 256 (st.length + i) (fun z => absurd z (by omega)) (fun _ => ?_)) es
    rw [nI_clamp (show i < 2 ^ 31 by omega), nI_clamp (show st.length + i < 2 ^ 31 by omega), mb_m3_1 h3 hi, mb_m3_2 h3 hi, mb_m3_3 h3 hi]
    refine ⟨p, nm_e ⟨p', p, nm_e ⟨p', p, nm_e ⟨p', p, nm_e (nm_r (nI_1 _) (nm_r (nI_1 i) (hc (_, _, _, _) ?_)))⟩⟩⟩⟩
    rw [← List.take_append_getElem hi, List.map_append, ← List.append_assoc]
    exact mb_m4_app hI el ec rfl rfl rfl
theorem mb_solve49 {post : St2 → Prop} {P : mb_P} (hP : mb_Pok P) (ob : mb_ob P mi mo a1 a3) {w : Nat} (en : fn = 5) (ew : fw = nI w) (hw1 : 1 ≤ w) (hw : w ≤ 16)
    (H : ∀ (sz ns cu cs ex bv bt : Int32) (a4 a5 a6 a7 a8 a9 a10 a11 a12 a13 a14 a15 a16 : Nat → Int32), mb_SR P bv bt → post (fn, fw, fi, fo, mi, mo, sz, ns, cu, cs, ex, bv, bt, a1, a2, a3, a4, a5, a6, a7, a8, a9, a10, a11, a12, a13, a14, a15, a16, a17)) :
    ∀ (d step : Nat) (sz ns cu cs ex bv bt : Int32) (a4 a5 a6 a7 a8 a9 a10 a11 a12 a13 a14 a15 a16 : Nat → Int32) (st : List (Nat × mb_Nd)), mb_W st ≤ d → mb_SI P step bv bt st → mb_m4 st a13 a14 a15 a16 → wX_solve_49 post (d + 1) (nI st.length) (nI step) fn fw fi fo mi mo sz ns cu cs ex bv bt a1 a2 a3 a4 a5 a6 a7 a8 a9 a10 a11 a12 a13 a14 a15 a16 a17 := by
  intro d
  induction d with
  | zero =>
    intro step sz ns cu cs ex bv bt a4 a5 a6 a7 a8 a9 a10 a11 a12 a13 a14 a15 a16 st hW hS h4
    have hlen := mb_W_len st (fun e he => (hS.2.1 e he).1)
    have hs := hS.1
    have e0 : st = [] := List.eq_nil_of_length_eq_zero (by omega)
    subst e0
    exact pk_le 8192 step (fun z => absurd z (by omega)) (fun _ => pk_le 0 0 (fun _ => H sz ns cu cs ex bv bt a4 a5 a6 a7 a8 a9 a10 a11 a12 a13 a14 a15 a16 (mb_SI_e hP hS)) (fun z => absurd z (by omega)))
  | succ d ih =>
    intro step sz ns cu cs ex bv bt a4 a5 a6 a7 a8 a9 a10 a11 a12 a13 a14 a15 a16 st hW hS h4
    have hlen := mb_W_len st (fun e he => (hS.2.1 e he).1)
    have hs := hS.1
    refine pk_le 8192 step (fun z => absurd z (by omega)) (fun _ => pk_le st.length 0 (fun z => ?_) (fun z => ?_))
    · have e0 : st = [] := List.eq_nil_of_length_eq_zero (by omega)
      subst e0
      exact H sz ns cu cs ex bv bt a4 a5 a6 a7 a8 a9 a10 a11 a12 a13 a14 a15 a16 (mb_SI_e hP hS)
    · obtain ⟨st', e, est⟩ : ∃ st' e, st = st' ++ [e] := by
        have hne : st ≠ [] := fun q => by rw [q] at z; exact absurd z (by simp)
        exact ⟨st.dropLast, st.getLast hne, (List.dropLast_concat_getLast hne).symm⟩
      subst est
      have hl1 : (st' ++ [e]).length = st'.length + 1 := by rw [List.length_append]; rfl
      have he : e ∈ st' ++ [e] := List.mem_append_right _ (List.mem_singleton.mpr rfl)
      obtain ⟨q1, q2, q3⟩ := hS.2.1 e he
      have p : vp_in (nI st'.length) 256 := pk_in st'.length 256 (by omega)
      have ci : (nI st'.length).toNatClampNeg = st'.length := nI_clamp (by omega)
      have hW' : mb_W st' + 1 ≤ mb_W (st' ++ [e]) := by
        have := mb_w1 e.1 (by omega)
        rw [mb_W_app, mb_W_cons, mb_W_nil]
        omega
      have m4' : mb_m4 st' a13 a14 a15 a16 := ⟨mb_m_pre h4.1, mb_m_pre h4.2.1, mb_m_pre h4.2.2.1, mb_m_pre h4.2.2.2⟩
      have r1 : a13 st'.length = nI e.1 := mb_m_last h4.1
      have r2 : a14 st'.length = nI e.2.1 := mb_m_last h4.2.1
      have r3 : a15 st'.length = nI e.2.2.1 := mb_m_last h4.2.2.1
      have r4 : a16 st'.length = nI e.2.2.2 := mb_m_last h4.2.2.2
      refine nm_r (show nI (st' ++ [e]).length + (-1) = nI st'.length by rw [hl1]; exact pk_m1 _) ?_
      rw [ci, r1, r2, r3, r4]
      refine ⟨p, nm_e ⟨p, nm_e ⟨p, nm_e ⟨p, nm_e ?_⟩⟩⟩⟩
      refine mb_start ?_
      have one : ∀ b4 b5 b6 : Nat → Int32, mb_m3 [e.2] (upd b4 0 (nI e.2.1)) (upd b5 0 (nI e.2.2.1)) (upd b6 0 (nI e.2.2.2)) := fun b4 b5 b6 => ⟨mb_m_one rfl, mb_m_one rfl, mb_m_one rfl⟩
      refine mb_run (m := 0) (lv := e.1) (r := e.2) hP ob (by omega) q1 en ew hw1 hw q2 rfl (one _ _ _) (fun top sz ns cu cs ex bv1 bt1 a4 a5 a6 a7 a8 a9 a10 a11 a12 _ f0 _ => ?_)
      obtain ⟨f1, f2, f3, f4⟩ := f0 rfl
      refine br_c (fun e0 => mb_start ?_) (fun e0 => nm_r (nI_1 step) (ih (step + 1) _ _ _ _ _ _ _ _ _ _ _ _ _ _ _ _ _ _ _ _ st' (by omega) (mb_SI_pop hS f1 f2 (f3 e0)) m4'))
      refine mb_run (m := 1) (lv := e.1) (r := e.2) hP ob (by omega) q1 en ew hw1 hw q2 rfl (one _ _ _) (fun top sz ns cu cs ex bv2 bt2 a4 a5 a6 a7 a8 a9 a10 a11 a12 g0 _ g1 => ?_)
      obtain ⟨y1, y2, y3⟩ := g1 (by decide)
      subst y1 y2
      refine br_c (fun le => nm_r (nI_1 step) (ih (step + 1) _ _ _ _ _ _ _ _ _ _ _ _ _ _ _ _ _ _ _ _ st' (by omega) (mb_SI_pop hS f1 f2 (fun p hp => ?_)) m4')) (fun le => ?_)
      · exact Int.le_trans (g0 (Or.inr (by decide)) p hp) (Int32.le_iff_toInt_le.mp le)
      · obtain ⟨c, l, k1, k2, k3, k4, k5⟩ := y3 (f4 e0)
        obtain ⟨s1, s2⟩ := mb_SI_psh hS f1 f2 k4 k5
        have hl := k4.2.2.2.1
        have hln := mb_W_len _ (fun e he => (s1.2.1 e he).1)
        have hs1 := s1.1
        have ell : (st' ++ l.map (fun nd => (c, nd))).length = st'.length + l.length := by rw [List.length_append, List.length_map]
        refine mb_push (st := st') (c := c) (l := l) (by omega) hl k1 k2 m4' k3 (fun b13 b14 b15 b16 g => ?_)
        have t := ih (step + 1) sz ns cu cs ex bv2 bt2 a4 a5 a6 a7 a8 a9 a10 a11 a12 b13 b14 b15 b16 _ (by omega) s1 g
        rw [ell] at t
        rw [nI_1]
        exact t
theorem mb_solve {post : St2 → Prop} {P : mb_P} (hP : mb_Pok P) (ob : mb_ob P mi mo a1 a3) {w : Nat} (en : fn = 5) (ew : fw = nI w) (hw1 : 1 ≤ w) (hw : w ≤ 16)
    (H : ∀ (sz ns cu cs ex bv bt : Int32) (a4 a5 a6 a7 a8 a9 a10 a11 a12 a13 a14 a15 a16 : Nat → Int32), mb_SR P bv bt → post (fn, fw, fi, fo, mi, mo, sz, ns, cu, cs, ex, bv, bt, a1, a2, a3, a4, a5, a6, a7, a8, a9, a10, a11, a12, a13, a14, a15, a16, a17)) : wpX_solve post (fn, fw, fi, fo, mi, mo, sz, ns, cu, cs, ex, bv, bt, a1, a2, a3, a4, a5, a6, a7, a8, a9, a10, a11, a12, a13, a14, a15, a16, a17) := by
  unfold wpX_solve
  refine nm_e (nm_r (e' := upd a14 0 (nI 31)) (by rw [en]; rfl) (nm_e (nm_e ⟨63 + 1, ?_⟩)))
  exact mb_solve49 hP ob en ew hw1 hw H 63 0 _ _ _ _ _ _ _ _ _ _ _ _ _ _ _ _ _ _ _ _ [(0, 31, 0, 0)] (by decide) (mb_SI_0 P) ⟨mb_m_one rfl, mb_m_one rfl, mb_m_one rfl, mb_m_one rfl⟩
end
end
section
def mb_sm (f : Nat → Nat) : Nat → Nat
  | 0 => 0
  | n + 1 => mb_sm f n + f n
/-- the worth of a set -/
def mb_ws (W : Nat → Nat) (T : Nat) : Nat := mb_sm (fun v => if T.testBit v = true then W v else 0) 5
theorem mb_tb : ∀ v, v < 12 → ∀ m, m < 32 → (nI m >>> (nI v &&& 31)) &&& 1 = nI (if m.testBit v = true then 1 else 0) := by decide +kernel
theorem mb_tb1 {v m : Nat} (hv : v < 12) (hm : m < 32) : (nI m >>> (nI v &&& 31)) &&& 1 = 1 ↔ m.testBit v = true := by
  rw [mb_tb v hv m hm]
  by_cases c : m.testBit v = true
  · rw [if_pos c]
    exact ⟨fun _ => c, fun _ => rfl⟩
  · rw [if_neg c]
    exact ⟨fun z => absurd z (by decide), fun z => absurd z c⟩
theorem mb_ta : ∀ m, m < 32 → ∀ j, j < 32 → ((nI m &&& nI j) = 0 ↔ m &&& j = 0) := by decide +kernel
theorem mb_o12 : ∀ m, m < 32 → mb_sm (fun v => if m.testBit v = true then 1 else 0) 12 = mb_ws (fun _ => 1) m := by decide +kernel
/-- the object that the law has made: joined, weights, forcedIn, forcedOut, width -/
def mb_O (J W : Nat → Nat) (FI FO w : Nat) (fn fw fi fo : Int32) (a1 a2 : Nat → Int32) : Prop :=
  fn = 5 ∧ fw = nI w ∧ 1 ≤ w ∧ w ≤ 16 ∧ fi = nI FI ∧ FI < 32 ∧ fo = nI FO ∧ FO < 32 ∧ ∀ v, v < 5 → a1 v = nI (J v) ∧ J v < 32 ∧ a2 v = nI (W v) ∧ W v ≤ 15
def mb_PG (J W : Nat → Nat) (FI FO : Nat) : mb_P := (J, fun v => 4096 * W v + 2 ^ v, FI, FO)
def mb_PW (J W : Nat → Nat) (FI FO : Nat) : mb_P := (J, W, FI, FO)
section
variable {fn fw fi fo mi mo sz ns cu cs ex bv bt : Int32} {a1 a2 a3 a4 a5 a6 a7 a8 a9 a10 a11 a12 a13 a14 a15 a16 a17 : Nat → Int32}
variable {J W : Nat → Nat} {FI FO w : Nat}
theorem mb_PG_ok (o : mb_O J W FI FO w fn fw fi fo a1 a2) : mb_Pok (mb_PG J W FI FO) := by
  obtain ⟨_, _, _, _, _, o1, _, o2, o3⟩ := o
  refine ⟨fun v hv => ⟨(o3 v hv).2.1, ?_⟩, o1, o2⟩
  have h1 := (o3 v hv).2.2.2
  have h2 := mb_p5 v hv
  show 4096 * W v + 2 ^ v ≤ 70000
  omega
theorem mb_PG1_ok (o : mb_O J W FI FO w fn fw fi fo a1 a2) : mb_Pok (mb_PG J (fun _ => 1) 0 0) := by
  obtain ⟨_, _, _, _, _, o1, _, o2, o3⟩ := o
  refine ⟨fun v hv => ⟨(o3 v hv).2.1, ?_⟩, by show 0 < 32; omega, by show 0 < 32; omega⟩
  have h2 := mb_p5 v hv
  show 4096 * 1 + 2 ^ v ≤ 70000
  omega
theorem mb_PW_ok (o : mb_O J W FI FO w fn fw fi fo a1 a2) : mb_Pok (mb_PW J W FI FO) := by
  obtain ⟨_, _, _, _, _, o1, _, o2, o3⟩ := o
  refine ⟨fun v hv => ⟨(o3 v hv).2.1, ?_⟩, o1, o2⟩
  have h1 := (o3 v hv).2.2.2
  show W v ≤ 70000
  omega
theorem mb_takeWeights {post : St2 → Prop} (o : mb_O J W FI FO w fn fw fi fo a1 a2) (H : ∀ b3 : Nat → Int32, (∀ v, v < 5 → b3 v = nI (4096 * W v + 2 ^ v)) → post (fn, fw, fi, fo, fi, fo, sz, ns, cu, cs, ex, bv, bt, a1, a2, b3, a4, a5, a6, a7, a8, a9, a10, a11, a12, a13, a14, a15, a16, a17)) : wpX_takeWeights post (fn, fw, fi, fo, mi, mo, sz, ns, cu, cs, ex, bv, bt, a1, a2, a3, a4, a5, a6, a7, a8, a9, a10, a11, a12, a13, a14, a15, a16, a17) := by
  obtain ⟨o0, _, _, _, _, _, _, _, o3⟩ := o
  unfold wpX_takeWeights
  refine pk_loop (fun k i (s : Nat → Int32) => wX_takeWeights_2 post fn fw fi fo mi mo sz ns cu cs ex bv bt k (nI i) a1 a2 s a4 a5 a6 a7 a8 a9 a10 a11 a12 a13 a14 a15 a16 a17) (fun i s => ∀ j, j < i → s j = (fun j => nI (4096 * W j + 2 ^ j)) j) 5 0 a3 (by omega) lt_0 ?_ ?_
  · intro k s h
    exact pk_le 5 5 (fun _ => H s h) (fun z => absurd z (by omega)) o0
  · intro k i s hi h hc
    have p : vp_in (nI i) 12 := pk_in i 12 (by omega)
    have c : (nI i).toNatClampNeg = i := nI_clamp (by omega)
    refine pk_le 5 i (fun z => absurd z (by omega)) (fun _ => ⟨p, p, nm_e (nm_r (nI_1 i) (hc _ (mb_fill c h ?_)))⟩) o0
    rw [c, (o3 i hi).2.2.1, mb_t1 i (by omega)]
    show nI 4096 * nI (W i) + nI (2 ^ i) = nI (4096 * W i + 2 ^ i)
    rw [pk_mul, nI_add]
theorem mb_takeOnes {post : St2 → Prop} (o : mb_O J W FI FO w fn fw fi fo a1 a2) (H : ∀ b3 : Nat → Int32, (∀ v, v < 5 → b3 v = nI (4096 * 1 + 2 ^ v)) → post (fn, fw, fi, fo, 0, 0, sz, ns, cu, cs, ex, bv, bt, a1, a2, b3, a4, a5, a6, a7, a8, a9, a10, a11, a12, a13, a14, a15, a16, a17)) : wpX_takeOnes post (fn, fw, fi, fo, mi, mo, sz, ns, cu, cs, ex, bv, bt, a1, a2, a3, a4, a5, a6, a7, a8, a9, a10, a11, a12, a13, a14, a15, a16, a17) := by
  obtain ⟨o0, _, _, _, _, _, _, _, o3⟩ := o
  unfold wpX_takeOnes
  refine pk_loop (fun k i (s : Nat → Int32) => wX_takeOnes_2 post fn fw fi fo mi mo sz ns cu cs ex bv bt k (nI i) a1 a2 s a4 a5 a6 a7 a8 a9 a10 a11 a12 a13 a14 a15 a16 a17) (fun i s => ∀ j, j < i → s j = (fun j => nI (4096 * 1 + 2 ^ j)) j) 5 0 a3 (by omega) lt_0 ?_ ?_
  · intro k s h
    exact pk_le 5 5 (fun _ => H s h) (fun z => absurd z (by omega)) o0
  · intro k i s hi h hc
    have p : vp_in (nI i) 12 := pk_in i 12 (by omega)
    have c : (nI i).toNatClampNeg = i := nI_clamp (by omega)
    refine pk_le 5 i (fun z => absurd z (by omega)) (fun _ => ⟨p, nm_e (nm_r (nI_1 i) (hc _ (mb_fill c h ?_)))⟩) o0
    rw [mb_t1 i (by omega)]
    show nI 4096 + nI (2 ^ i) = nI (4096 * 1 + 2 ^ i)
    rw [nI_add]
theorem mb_weightOf {post : Int32 → Prop} (o : mb_O J W FI FO w fn fw fi fo a1 a2) {T : Nat} (hT : T < 32) (H : post (nI (mb_ws W T))) : wpX_weightOf post (fn, fw, fi, fo, mi, mo, sz, ns, cu, cs, ex, bv, bt, a1, a2, a3, a4, a5, a6, a7, a8, a9, a10, a11, a12, a13, a14, a15, a16, a17) (nI T) := by
  obtain ⟨o0, _, _, _, _, _, _, _, o3⟩ := o
  unfold wpX_weightOf
  refine pk_loop (σ := Unit) (fun k i _ => wX_weightOf_4 post (nI T) fn fw fi fo mi mo sz ns cu cs ex bv bt a1 a2 a3 a4 a5 a6 a7 a8 a9 a10 a11 a12 a13 a14 a15 a16 a17 k (nI (mb_sm (fun v => if T.testBit v = true then W v else 0) i)) (nI i)) (fun _ _ => True) 5 0 () (by omega) trivial ?_ ?_
  · intro k _ _
    exact pk_le 5 5 (fun _ => H) (fun z => absurd z (by omega)) o0
  · intro k i _ hi _ hc
    have p : vp_in (nI i) 12 := pk_in i 12 (by omega)
    have t := hc () trivial
    refine pk_le 5 i (fun z => absurd z (by omega)) (fun _ => ek_if (mb_tb1 (by omega) hT) (fun z => ⟨p, ?_⟩) (fun z => ?_)) o0
    · rw [nI_clamp (show i < 2 ^ 31 by omega), (o3 i hi).2.2.1]
      refine nm_r (nI_add _ _) (nm_r (nI_1 i) ?_)
      rw [mb_sm, if_pos z] at t
      exact t
    · refine nm_r (e' := nI (mb_sm (fun v => if T.testBit v = true then W v else 0) i + 0)) (nI_add _ 0) (nm_r (nI_1 i) ?_)
      rw [mb_sm, if_neg z] at t
      exact t
theorem mb_ones {post : Int32 → Prop} {T : Nat} (hT : T < 32) (H : post (nI (mb_ws (fun _ => 1) T))) : wpX_ones post () (nI T) := by
  rw [← mb_o12 T hT] at H
  unfold wpX_ones
  refine pk_loop (σ := Unit) (fun k i _ => wX_ones_4 post (nI T) k (nI (mb_sm (fun v => if T.testBit v = true then 1 else 0) i)) (nI i)) (fun _ _ => True) 12 0 () (by omega) trivial ?_ ?_
  · intro k _ _
    exact pk_le 12 12 (fun _ => H) (fun z => absurd z (by omega))
  · intro k i _ hi _ hc
    have t := hc () trivial
    refine pk_le 12 i (fun z => absurd z (by omega)) (fun _ => ?_)
    rw [mb_tb i hi T hT]
    exact nm_r (nI_add _ _) (nm_r (nI_1 i) t)
theorem mb_possible {post : Int32 → Prop} (o : mb_O J W FI FO w fn fw fi fo a1 a2) (H1 : (∀ v, v < 5 → FI.testBit v = true → J v &&& FI = 0) → post 1) (H0 : (∃ v, v < 5 ∧ FI.testBit v = true ∧ ¬ J v &&& FI = 0) → post 0) : wpX_possible post (fn, fw, fi, fo, mi, mo, sz, ns, cu, cs, ex, bv, bt, a1, a2, a3, a4, a5, a6, a7, a8, a9, a10, a11, a12, a13, a14, a15, a16, a17) := by
  obtain ⟨o0, _, _, _, o1, o2, _, _, o3⟩ := o
  subst o1
  unfold wpX_possible
  refine pk_loop (σ := Unit) (fun k i _ => wX_possible_2 post fn fw (nI FI) fo mi mo sz ns cu cs ex bv bt a1 a2 a3 a4 a5 a6 a7 a8 a9 a10 a11 a12 a13 a14 a15 a16 a17 k (nI i)) (fun i _ => ∀ v, v < i → FI.testBit v = true → J v &&& FI = 0) 5 0 () (by omega) (fun v z => absurd z (by omega)) ?_ ?_
  · intro k _ h
    exact pk_le 5 5 (fun _ => H1 h) (fun z => absurd z (by omega)) o0
  · intro k i _ hi h hc
    have p : vp_in (nI i) 12 := pk_in i 12 (by omega)
    refine pk_le 5 i (fun z => absurd z (by omega)) (fun _ => ek_if (mb_tb1 (by omega) o2) (fun z => ⟨p, ?_⟩) (fun z => ?_)) o0
    · rw [nI_clamp (show i < 2 ^ 31 by omega), (o3 i hi).1]
      refine ek_if (mb_ta _ (o3 i hi).2.1 _ o2) (fun y => nm_r (nI_1 i) (hc () (fun v hv hb => ?_))) (fun y => H0 ⟨i, hi, z, y⟩)
      by_cases c : v = i
      · rw [c]; exact y
      · exact h v (by omega) hb
    · refine nm_r (nI_1 i) (hc () (fun v hv hb => ?_))
      by_cases c : v = i
      · rw [c] at hb; exact absurd hb z
      · exact h v (by omega) hb
end
end
section
/-! numbers of ways: a layer is a list of states with their numbers -/
def mb_rc : List (Nat × Nat) → Nat × Nat → List (Nat × Nat)
  | [], e => [e]
  | m :: l, e => if m.1 = e.1 then (m.1, m.2 + e.2) :: l else m :: mb_rc l e
theorem mb_rc_new : ∀ (l : List (Nat × Nat)) (nd : Nat × Nat), (∀ m, m ∈ l → ¬ m.1 = nd.1) → mb_rc l nd = l ++ [nd]
  | [], _, _ => rfl
  | m :: l, nd, h => by
    rw [mb_rc, if_neg (h m (List.mem_cons_self ..)), mb_rc_new l nd (fun m' h' => h m' (List.mem_cons_of_mem _ h'))]
    rfl
theorem mb_rc_at : ∀ (l : List (Nat × Nat)) (nd : Nat × Nat) (k : Nat) (hk : k < l.length), (∀ j (hj : j < k), ¬ (l[j]'(by omega)).1 = nd.1) → l[k].1 = nd.1 → mb_rc l nd = l.set k (l[k].1, l[k].2 + nd.2)
  | [], _, k, hk, _, _ => absurd hk (by simp)
  | m :: l, nd, 0, hk, _, e => by
    have e' : m.1 = nd.1 := e
    rw [mb_rc, if_pos e']
    rfl
  | m :: l, nd, k + 1, hk, h, e => by
    have hk' : k < l.length := by simpa using hk
    have h0 : ¬ m.1 = nd.1 := h 0 (by omega)
    rw [mb_rc, if_neg h0, mb_rc_at l nd k hk' (fun j hj => h (j + 1) (by omega)) e]
    rfl
theorem mb_rc_len : ∀ (l : List (Nat × Nat)) (nd : Nat × Nat), (mb_rc l nd).length ≤ l.length + 1
  | [], _ => by simp [mb_rc]
  | a :: l, nd => by
    have := mb_rc_len l nd
    rw [mb_rc]
    by_cases c : a.1 = nd.1
    · rw [if_pos c]; simp
    · rw [if_neg c]; simp; omega
theorem mb_rc_wf : ∀ (l : List (Nat × Nat)) (nd : Nat × Nat), (∀ m, m ∈ l → m.1 < 32) → nd.1 < 32 → ∀ m, m ∈ mb_rc l nd → m.1 < 32
  | [], nd, _, h2, m, hm => by
    rw [mb_rc] at hm
    rw [List.mem_singleton.mp hm]
    exact h2
  | a :: l, nd, h1, h2, m, hm => by
    rw [mb_rc] at hm
    by_cases c : a.1 = nd.1
    · rw [if_pos c] at hm
      rcases List.mem_cons.mp hm with z | z
      · rw [z]; exact h1 a (List.mem_cons_self ..)
      · exact h1 m (List.mem_cons_of_mem _ z)
    · rw [if_neg c] at hm
      rcases List.mem_cons.mp hm with z | z
      · rw [z]; exact h1 a (List.mem_cons_self ..)
      · exact mb_rc_wf l nd (fun x hx => h1 x (List.mem_cons_of_mem _ hx)) h2 m z
def mb_tot (g : Nat → Nat) : List (Nat × Nat) → Nat
  | [] => 0
  | e :: l => e.2 * g e.1 + mb_tot g l
theorem mb_tot_rc (g : Nat → Nat) : ∀ (l : List (Nat × Nat)) (e : Nat × Nat), mb_tot g (mb_rc l e) = mb_tot g l + e.2 * g e.1
  | [], e => by
    show e.2 * g e.1 + 0 = 0 + e.2 * g e.1
    omega
  | a :: l, e => by
    rw [mb_rc]
    by_cases c : a.1 = e.1
    · rw [if_pos c]
      show (a.2 + e.2) * g a.1 + mb_tot g l = a.2 * g a.1 + mb_tot g l + e.2 * g e.1
      rw [Nat.add_mul, c]
      omega
    · rw [if_neg c]
      show a.2 * g a.1 + mb_tot g (mb_rc l e) = a.2 * g a.1 + mb_tot g l + e.2 * g e.1
      rw [mb_tot_rc g l e]
      omega
theorem mb_tot_app (g : Nat → Nat) : ∀ (a b : List (Nat × Nat)), mb_tot g (a ++ b) = mb_tot g a + mb_tot g b
  | [], b => by
    show mb_tot g b = 0 + mb_tot g b
    omega
  | e :: a, b => by
    show e.2 * g e.1 + mb_tot g (a ++ b) = e.2 * g e.1 + mb_tot g a + mb_tot g b
    rw [mb_tot_app g a b]
    omega
theorem mb_tot_fold (g : Nat → Nat) : ∀ (cs acc : List (Nat × Nat)), mb_tot g (cs.foldl mb_rc acc) = mb_tot g acc + mb_tot g cs
  | [], acc => rfl
  | c :: cs, acc => by
    rw [List.foldl_cons, mb_tot_fold g cs (mb_rc acc c), mb_tot_rc]
    show mb_tot g acc + c.2 * g c.1 + mb_tot g cs = mb_tot g acc + (c.2 * g c.1 + mb_tot g cs)
    omega
def mb_d2 (P : mb_P) (v : Nat) (nd : Nat × Nat) : List (Nat × Nat) := if nd.1.testBit v = true ∧ P.2.2.2.testBit v = false then [(mb_tk (P.1 v) v nd.1, nd.2)] else []
def mb_d1 (P : mb_P) (v : Nat) (nd : Nat × Nat) : List (Nat × Nat) := if P.2.2.1.testBit v = true then [] else [(mb_dr v nd.1, nd.2)]
def mb_dh (P : mb_P) (v : Nat) (nd : Nat × Nat) : List (Nat × Nat) := mb_d1 P v nd ++ mb_d2 P v nd
theorem mb_dh_len (P : mb_P) (v : Nat) (nd : Nat × Nat) : (mb_dh P v nd).length ≤ 2 := by
  unfold mb_dh mb_d1 mb_d2
  rw [List.length_append]
  have a : (if P.2.2.1.testBit v = true then ([] : List (Nat × Nat)) else [(mb_dr v nd.1, nd.2)]).length ≤ 1 := by
    by_cases c : P.2.2.1.testBit v = true
    · rw [if_pos c]; simp
    · rw [if_neg c]; simp
  have b : (if nd.1.testBit v = true ∧ P.2.2.2.testBit v = false then [(mb_tk (P.1 v) v nd.1, nd.2)] else ([] : List (Nat × Nat))).length ≤ 1 := by
    by_cases c : nd.1.testBit v = true ∧ P.2.2.2.testBit v = false
    · rw [if_pos c]; simp
    · rw [if_neg c]; simp
  omega
theorem mb_d1_wf {P : mb_P} {v : Nat} {nd m : Nat × Nat} (h : nd.1 < 32) (hm : m ∈ mb_d1 P v nd) : m.1 < 32 := by
  unfold mb_d1 at hm
  by_cases c : P.2.2.1.testBit v = true
  · rw [if_pos c] at hm; exact absurd hm (by simp)
  · rw [if_neg c] at hm
    rw [List.mem_singleton.mp hm]
    exact mb_dr_lt h
theorem mb_d2_wf {P : mb_P} {v : Nat} {nd m : Nat × Nat} (h : nd.1 < 32) (hm : m ∈ mb_d2 P v nd) : m.1 < 32 := by
  unfold mb_d2 at hm
  by_cases c : nd.1.testBit v = true ∧ P.2.2.2.testBit v = false
  · rw [if_pos c] at hm
    rw [List.mem_singleton.mp hm]
    exact mb_tk_lt h
  · rw [if_neg c] at hm; exact absurd hm (by simp)
theorem mb_rcf_wf : ∀ (cs acc : List (Nat × Nat)), (∀ m, m ∈ acc → m.1 < 32) → (∀ m, m ∈ cs → m.1 < 32) → ∀ m, m ∈ cs.foldl mb_rc acc → m.1 < 32
  | [], _, h, _ => h
  | c :: cs, acc, h, g => mb_rcf_wf cs (mb_rc acc c) (mb_rc_wf acc c h (g c (List.mem_cons_self ..))) (fun m hm => g m (List.mem_cons_of_mem _ hm))
theorem mb_rcf_len : ∀ (cs acc : List (Nat × Nat)), (cs.foldl mb_rc acc).length ≤ acc.length + cs.length
  | [], acc => by simp
  | c :: cs, acc => by
    have h1 := mb_rcf_len cs (mb_rc acc c)
    have h2 := mb_rc_len acc c
    rw [List.foldl_cons, List.length_cons]
    omega
def mb_g (P : mb_P) (v S : Nat) : Nat := (mb_C P v S).length
theorem mb_gs' (P : mb_P) {v : Nat} (hv : v < 5) (e : Nat × Nat) : e.2 * mb_g P v e.1 = mb_tot (mb_g P (v + 1)) (mb_dh P v e) := by
  unfold mb_dh mb_d1 mb_d2
  rw [mb_tot_app]
  unfold mb_g
  rw [mb_Cs P e.1 hv, List.length_append, Nat.mul_add]
  congr 1
  · by_cases c : P.2.2.1.testBit v = true
    · rw [if_pos c, if_pos c]; rfl
    · rw [if_neg c, if_neg c]; rfl
  · by_cases c : e.1.testBit v = true ∧ P.2.2.2.testBit v = false
    · rw [if_pos c, if_pos c, List.length_map]; rfl
    · rw [if_neg c, if_neg c]; rfl
theorem mb_tot_s (P : mb_P) {v : Nat} (hv : v < 5) : ∀ l : List (Nat × Nat), mb_tot (mb_g P v) l = mb_tot (mb_g P (v + 1)) (l.flatMap (mb_dh P v))
  | [] => rfl
  | e :: l => by
    rw [List.flatMap_cons, mb_tot_app, ← mb_tot_s P hv l, ← mb_gs' P hv e]
    rfl
def mb_bc (P : mb_P) (v : Nat) (l : List (Nat × Nat)) (i : Nat) : List (Nat × Nat) := ((l.take i).flatMap (mb_dh P v)).foldl mb_rc []
theorem mb_bc_0 (P : mb_P) (v : Nat) (l : List (Nat × Nat)) : mb_bc P v l 0 = [] := by
  unfold mb_bc
  rw [List.take_zero]
  rfl
theorem mb_bc_s (P : mb_P) (v : Nat) (l : List (Nat × Nat)) {i : Nat} (hi : i < l.length) : mb_bc P v l (i + 1) = (mb_dh P v l[i]).foldl mb_rc (mb_bc P v l i) := by
  unfold mb_bc
  rw [← List.take_append_getElem hi, List.flatMap_append, List.foldl_append, List.flatMap_cons, List.flatMap_nil, List.append_nil]
theorem mb_dhs_len (P : mb_P) (v : Nat) : ∀ l : List (Nat × Nat), (l.flatMap (mb_dh P v)).length ≤ 2 * l.length
  | [] => by simp
  | m :: l => by
    have h1 := mb_dhs_len P v l
    have h2 := mb_dh_len P v m
    rw [List.flatMap_cons, List.length_append, List.length_cons]
    omega
theorem mb_bc_len (P : mb_P) (v : Nat) (l : List (Nat × Nat)) (i : Nat) : (mb_bc P v l i).length ≤ 2 * i := by
  have h := mb_dhs_len P v (l.take i)
  have g := mb_rcf_len ((l.take i).flatMap (mb_dh P v)) []
  rw [List.length_take] at h
  unfold mb_bc
  rw [List.length_nil, Nat.zero_add] at g
  omega
theorem mb_bc_wf (P : mb_P) (v : Nat) {l : List (Nat × Nat)} (h : ∀ m, m ∈ l → m.1 < 32) (i : Nat) : ∀ m, m ∈ mb_bc P v l i → m.1 < 32 := by
  refine mb_rcf_wf _ _ (fun m hm => absurd hm (by simp)) (fun m hm => ?_)
  obtain ⟨nd, hn, hd⟩ := List.mem_flatMap.mp hm
  have q := h nd (List.mem_of_mem_take hn)
  rcases List.mem_append.mp hd with z | z
  · exact mb_d1_wf q z
  · exact mb_d2_wf q z
theorem mb_bc_tot (P : mb_P) {v : Nat} (hv : v < 5) (l : List (Nat × Nat)) : mb_tot (mb_g P (v + 1)) (mb_bc P v l l.length) = mb_tot (mb_g P v) l := by
  unfold mb_bc
  rw [List.take_length, mb_tot_fold, mb_tot_s P hv l]
  show 0 + _ = _
  omega
def mb_m2 (l : List (Nat × Nat)) (a b : Nat → Int32) : Prop := mb_m l (fun m => m.1) a ∧ mb_m l (fun m => m.2) b
section
variable {fn fw fi fo mi mo sz ns cu cs ex bv bt : Int32} {a1 a2 a3 a4 a5 a6 a7 a8 a9 a10 a11 a12 a13 a14 a15 a16 a17 : Nat → Int32}
theorem mb_reachCount {post : St2 → Prop} {l : List (Nat × Nat)} {nd : Nat × Nat} (hl : l.length < 64) (hn : ns = nI l.length)
    (hw : ∀ m, m ∈ l → m.1 < 32) (hd : nd.1 < 32) (h : mb_m2 l a7 a8) {y1 y2 : Int32} (e1 : y1 = nI nd.1) (e2 : y2 = nI nd.2)
    (H : ∀ b7 b8, mb_m2 (mb_rc l nd) b7 b8 → post (fn, fw, fi, fo, mi, mo, sz, nI (mb_rc l nd).length, cu, cs, ex, bv, bt, a1, a2, a3, a4, a5, a6, b7, b8, a9, a10, a11, a12, a13, a14, a15, a16, a17)) :
    wpX_reachCount post (fn, fw, fi, fo, mi, mo, sz, ns, cu, cs, ex, bv, bt, a1, a2, a3, a4, a5, a6, a7, a8, a9, a10, a11, a12, a13, a14, a15, a16, a17) y1 y2 := by
  subst hn e1 e2
  obtain ⟨h7, h8⟩ := h
  unfold wpX_reachCount
  refine pk_loop (σ := Unit) (fun n i _ => wX_reachCount_2 post (nI nd.1) (nI nd.2) fn fw fi fo mi mo sz (nI l.length) cu cs ex bv bt a1 a2 a3 a4 a5 a6 a7 a8 a9 a10 a11 a12 a13 a14 a15 a16 a17 n (nI i)) (fun i _ => ∀ j (hj : j < l.length), j < i → ¬ l[j].1 = nd.1) l.length 0 () (by omega) (fun j _ z => absurd z (by omega)) ?_ ?_
  · intro n _ hI
    have hr : mb_rc l nd = l ++ [nd] := mb_rc_new l nd (fun m hm z => by
      obtain ⟨j, hj, e⟩ := List.mem_iff_getElem.mp hm
      exact hI j hj hj (by rw [e]; exact z))
    refine pk_le l.length l.length (fun _ => ?_) (fun z => absurd z (by omega))
    refine pk_le 64 l.length (fun z => absurd z (by omega)) (fun _ => ⟨pk_in _ 64 hl, nm_e ⟨pk_in _ 64 hl, nm_e (nm_r (nI_1 _) ?_)⟩⟩)
    rw [nI_clamp (show l.length < 2 ^ 31 by omega)]
    have t := H (upd a7 l.length (nI nd.1)) (upd a8 l.length (nI nd.2)) (by rw [hr]; exact ⟨mb_m_app h7 rfl rfl, mb_m_app h8 rfl rfl⟩)
    rw [hr, List.length_append] at t
    exact t
  · intro n i _ hi hI hc
    refine pk_le l.length i (fun z => absurd z (by omega)) (fun _ => ⟨pk_in i 64 (by omega), ?_⟩)
    have hm := hw l[i] (List.getElem_mem hi)
    rw [nI_clamp (show i < 2 ^ 31 by omega), show a7 i = nI l[i].1 from h7 i hi, show a8 i = nI l[i].2 from h8 i hi]
    refine pk_eq l[i].1 nd.1 (fun e => ⟨pk_in i 64 (by omega), pk_in i 64 (by omega), nm_r (congrArg (upd a8 i) (nI_add _ _)) ?_⟩) (fun e => nm_r (nI_1 i) (hc () ?_)) rfl rfl (by omega) (by omega)
    · have hr := mb_rc_at l nd i hi (fun j hj => hI j (by omega) hj) e
      have t := H a7 (upd a8 i (nI (l[i].2 + nd.2))) (by rw [hr]; exact ⟨mb_m_set' hi h7 rfl, mb_m_set h8 rfl⟩)
      rw [hr, List.length_set] at t
      exact t
    · intro j hj hji
      by_cases z : j = i
      · subst z; exact e
      · exact hI j hj (by omega)
theorem mb_count33 {post : St2 → Prop} {P : mb_P} (hP : mb_Pok P) {v i : Nat} (hv : v < 5) (hi : i < 64) {nd : Nat × Nat} {acc : List (Nat × Nat)} (hl : acc.length < 64) (hn : ns = nI acc.length)
    (hw : ∀ m, m ∈ acc → m.1 < 32) (hd : nd.1 < 32) (ob : mb_ob P mi mo a1 a3)
    (e4 : a4 i = nI nd.1) (e5 : a5 i = nI nd.2) (h : mb_m2 acc a7 a8)
    (H : ∀ b7 b8, mb_m2 ((mb_d2 P v nd).foldl mb_rc acc) b7 b8 → post (fn, fw, fi, fo, mi, mo, sz, nI ((mb_d2 P v nd).foldl mb_rc acc).length, cu, cs, ex, bv, bt, a1, a2, a3, a4, a5, a6, b7, b8, a9, a10, a11, a12, a13, a14, a15, a16, a17)) :
    wX_countNode_33 post (nI i) (nI v) (nI (2 ^ v)) fn fw fi fo mi mo sz ns cu cs ex bv bt a1 a2 a3 a4 a5 a6 a7 a8 a9 a10 a11 a12 a13 a14 a15 a16 a17 := by
  obtain ⟨em, eo, o⟩ := ob
  subst hn em eo
  have o1 := (o v hv).1
  have pj := (hP.1 v hv).1
  unfold wX_countNode_33
  rw [nI_clamp (show i < 2 ^ 31 by omega), nI_clamp (show v < 2 ^ 31 by omega), o1, e4, e5]
  refine ⟨pk_in i 64 hi, ek_if (mb_t2 v hv nd.1 hd) (fun z => ?_) (fun z => ek_if (mb_t2 v hv P.2.2.2 hP.2.2) (fun y => ⟨pk_in i 64 hi, pk_in v 12 (by omega), pk_in i 64 hi, ?_⟩) (fun y => ?_))⟩
  · have e : mb_d2 P v nd = [] := if_neg (fun c => by rw [z] at c; exact absurd c.1 (by decide))
    rw [e] at H
    exact H a7 a8 h
  · have z' : nd.1.testBit v = true := by
      cases c : nd.1.testBit v
      · exact absurd c z
      · rfl
    have e : mb_d2 P v nd = [(mb_tk (P.1 v) v nd.1, nd.2)] := if_pos ⟨z', y⟩
    rw [e] at H
    refine mb_reachCount (l := acc) (nd := (mb_tk (P.1 v) v nd.1, nd.2)) hl rfl hw (mb_tk_lt hd) h (mb_t4 hv hd pj) rfl (fun b7 b8 g => ?_)
    exact H b7 b8 g
  · have e : mb_d2 P v nd = [] := if_neg (fun c => y c.2)
    rw [e] at H
    exact H a7 a8 h
theorem mb_countNode {post : St2 → Prop} {P : mb_P} (hP : mb_Pok P) {v i : Nat} (hv : v < 5) (hi : i < 64) {nd : Nat × Nat} {acc : List (Nat × Nat)} (hl : acc.length + 2 ≤ 64) (hn : ns = nI acc.length)
    (hw : ∀ m, m ∈ acc → m.1 < 32) (hd : nd.1 < 32) (ob : mb_ob P mi mo a1 a3)
    (e4 : a4 i = nI nd.1) (e5 : a5 i = nI nd.2) (h : mb_m2 acc a7 a8)
    (H : ∀ b7 b8, mb_m2 ((mb_dh P v nd).foldl mb_rc acc) b7 b8 → post (fn, fw, fi, fo, mi, mo, sz, nI ((mb_dh P v nd).foldl mb_rc acc).length, cu, cs, ex, bv, bt, a1, a2, a3, a4, a5, a6, b7, b8, a9, a10, a11, a12, a13, a14, a15, a16, a17)) :
    wpX_countNode post (fn, fw, fi, fo, mi, mo, sz, ns, cu, cs, ex, bv, bt, a1, a2, a3, a4, a5, a6, a7, a8, a9, a10, a11, a12, a13, a14, a15, a16, a17) (nI i) (nI v) := by
  have ob' := ob
  obtain ⟨em, eo, o⟩ := ob
  subst hn em eo
  unfold wpX_countNode
  refine nm_r (mb_t1 v (by omega)) ?_
  rw [nI_clamp (show i < 2 ^ 31 by omega), e4, e5]
  refine ek_if (mb_t2 v hv P.2.2.1 hP.2.1) (fun z => ⟨pk_in i 64 hi, pk_in i 64 hi, ?_⟩) (fun z => ?_)
  · have e : mb_d1 P v nd = [(mb_dr v nd.1, nd.2)] := if_neg (by rw [z]; decide)
    have e2 : (mb_dh P v nd).foldl mb_rc acc = (mb_d2 P v nd).foldl mb_rc (mb_rc acc (mb_dr v nd.1, nd.2)) := by unfold mb_dh; rw [e, List.foldl_append]; rfl
    rw [e2] at H
    refine mb_reachCount (l := acc) (nd := (mb_dr v nd.1, nd.2)) (by omega) rfl hw (mb_dr_lt hd) h (mb_t3 hv hd) rfl (fun b7 b8 g => ?_)
    have hlen := mb_rc_len acc (mb_dr v nd.1, nd.2)
    exact mb_count33 hP hv hi (by omega) rfl (mb_rc_wf acc _ hw (mb_dr_lt hd)) hd ob' e4 e5 g (fun c7 c8 g' => H c7 c8 g')
  · have z' : P.2.2.1.testBit v = true := by
      cases c : P.2.2.1.testBit v
      · exact absurd c z
      · rfl
    have e : mb_dh P v nd = mb_d2 P v nd := by
      unfold mb_dh mb_d1
      rw [if_pos z']
      rfl
    rw [e] at H
    exact mb_count33 hP hv hi (by omega) rfl hw hd ob' e4 e5 h H
theorem mb_all35 {post : Int32 → St2 → Prop} {J20 : Int32 → Int32 → Int32 → Int32 → Int32 → Int32 → Int32 → Int32 → Int32 → Int32 → Int32 → Int32 → Int32 → Int32 → (Nat → Int32) → (Nat → Int32) → (Nat → Int32) → (Nat → Int32) → (Nat → Int32) → (Nat → Int32) → (Nat → Int32) → (Nat → Int32) → (Nat → Int32) → (Nat → Int32) → (Nat → Int32) → (Nat → Int32) → (Nat → Int32) → (Nat → Int32) → (Nat → Int32) → (Nat → Int32) → (Nat → Int32) → Prop} {P : mb_P} (hP : mb_Pok P) (ob : mb_ob P mi mo a1 a3) {v : Nat} {l : List (Nat × Nat)} (hv : v < 5) (hl : l.length ≤ 31) (hs : sz = nI l.length) (wf : ∀ m, m ∈ l → m.1 < 32) (h2 : mb_m2 l a4 a5)
    (H : ∀ b4 b5 b6 b7 b8, mb_m2 (mb_bc P v l l.length) b4 b5 → J20 (nI (v + 1)) fn fw fi fo mi mo (nI (mb_bc P v l l.length).length) (nI (mb_bc P v l l.length).length) cu cs ex bv bt a1 a2 a3 b4 b5 b6 b7 b8 a9 a10 a11 a12 a13 a14 a15 a16 a17) :
    ∃ fu, wX_allowedSets_35 post J20 (nI v) fu 0 fn fw fi fo mi mo sz 0 cu cs ex bv bt a1 a2 a3 a4 a5 a6 a7 a8 a9 a10 a11 a12 a13 a14 a15 a16 a17 := by
  subst hs
  refine pk_loop (fun k i (s : Int32 × (Nat → Int32) × (Nat → Int32)) => wX_allowedSets_35 post J20 (nI v) k (nI i) fn fw fi fo mi mo (nI l.length) s.1 cu cs ex bv bt a1 a2 a3 a4 a5 a6 s.2.1 s.2.2 a9 a10 a11 a12 a13 a14 a15 a16 a17) (fun i s => s.1 = nI (mb_bc P v l i).length ∧ mb_m2 (mb_bc P v l i) s.2.1 s.2.2) l.length 0 (0, a7, a8) (by omega) ?_ ?_ ?_
  · rw [mb_bc_0]
    exact ⟨rfl, mb_m_nil, mb_m_nil⟩
  · intro k s hI
    obtain ⟨e1, e2⟩ := hI
    refine pk_le l.length l.length (fun _ => ?_) (fun z => absurd z (by omega))
    have hlen := mb_bc_len P v l l.length
    refine mb_takeLayer (n := (mb_bc P v l l.length).length) (by omega) e1 (fun b4 b5 b6 g4 g5 g6 => nm_r (nI_1 v) ?_)
    exact H b4 b5 b6 s.2.1 s.2.2 ⟨mb_m_eq e2.1 g4, mb_m_eq e2.2 g5⟩
  · intro k i s hi hI hc
    obtain ⟨e1, e2⟩ := hI
    have hlen := mb_bc_len P v l i
    refine pk_le l.length i (fun z => absurd z (by omega)) (fun _ => ?_)
    refine mb_countNode hP hv (by omega) (nd := l[i]) (acc := mb_bc P v l i) (by omega) e1 (mb_bc_wf P v wf i) (wf _ (List.getElem_mem hi)) ob (h2.1 i hi) (h2.2 i hi) e2 (fun b7 b8 g => nm_r (nI_1 i) (hc (nI ((mb_dh P v l[i]).foldl mb_rc (mb_bc P v l i)).length, b7, b8) ⟨?_, ?_⟩))
    · show nI ((mb_dh P v l[i]).foldl mb_rc (mb_bc P v l i)).length = nI (mb_bc P v l (i + 1)).length
      rw [mb_bc_s P v l hi]
    · show mb_m2 (mb_bc P v l (i + 1)) b7 b8
      rw [mb_bc_s P v l hi]
      exact g
theorem mb_all69 {post : Int32 → St2 → Prop} {l : List (Nat × Nat)} (hl : l.length ≤ 64) (hs : sz = nI l.length) (h5 : mb_m l (fun m => m.2) a5) (H : post (nI (mb_tot (fun _ => 1) l)) (fn, fw, fi, fo, mi, mo, sz, ns, cu, cs, ex, bv, bt, a1, a2, a3, a4, a5, a6, a7, a8, a9, a10, a11, a12, a13, a14, a15, a16, a17)) :
    ∃ fu, wX_allowedSets_69 post fn fw fi fo mi mo sz ns cu cs ex bv bt a1 a2 a3 a4 a5 a6 a7 a8 a9 a10 a11 a12 a13 a14 a15 a16 a17 fu 0 0 := by
  refine pk_loop (fun k i (s : Nat) => wX_allowedSets_69 post fn fw fi fo mi mo sz ns cu cs ex bv bt a1 a2 a3 a4 a5 a6 a7 a8 a9 a10 a11 a12 a13 a14 a15 a16 a17 k (nI s) (nI i)) (fun i s => s = mb_tot (fun _ => 1) (l.take i)) l.length 0 0 (by omega) ?_ ?_ ?_
  · rw [List.take_zero]; rfl
  · intro k s hI
    rw [List.take_length] at hI
    subst hI
    exact pk_le l.length l.length (fun _ => H) (fun z => absurd z (by omega)) hs
  · intro k i s hi hI hc
    refine pk_le l.length i (fun z => absurd z (by omega)) (fun _ => ⟨pk_in i 64 (by omega), ?_⟩) hs
    rw [nI_clamp (show i < 2 ^ 31 by omega), show a5 i = nI l[i].2 from h5 i hi]
    refine nm_r (nI_add _ _) (nm_r (nI_1 i) (hc _ ?_))
    rw [← List.take_append_getElem hi, mb_tot_app, ← hI]
    show s + l[i].2 = s + (l[i].2 * 1 + 0)
    omega
theorem mb_all20 {post : Int32 → St2 → Prop} {P : mb_P} (hP : mb_Pok P) (ob : mb_ob P mi mo a1 a3) (en : fn = 5)
    (H : ∀ (sz ns : Int32) (a4 a5 a6 a7 a8 : Nat → Int32), post (nI (mb_C P 0 31).length) (fn, fw, fi, fo, mi, mo, sz, ns, cu, cs, ex, bv, bt, a1, a2, a3, a4, a5, a6, a7, a8, a9, a10, a11, a12, a13, a14, a15, a16, a17)) :
    ∀ (d v : Nat) (sz ns : Int32) (a4 a5 a6 a7 a8 : Nat → Int32) (l : List (Nat × Nat)), v + d = 5 → l.length ≤ 2 ^ v → sz = nI l.length → (∀ m, m ∈ l → m.1 < 32) → mb_m2 l a4 a5 → mb_tot (mb_g P v) l = (mb_C P 0 31).length → wX_allowedSets_20 post (d + 1) (nI v) fn fw fi fo mi mo sz ns cu cs ex bv bt a1 a2 a3 a4 a5 a6 a7 a8 a9 a10 a11 a12 a13 a14 a15 a16 a17 := by
  intro d
  induction d with
  | zero =>
    intro v sz ns a4 a5 a6 a7 a8 l hd hl hs wf h2 ht
    have e5 : v = 5 := by omega
    subst e5
    have hl' : l.length ≤ 32 := hl
    refine pk_le 5 5 (fun _ => mb_all69 (by omega) hs h2.2 ?_) (fun z => absurd z (by omega)) en
    have e : mb_tot (fun _ => 1) l = (mb_C P 0 31).length := by
      rw [← ht]
      congr 1
    rw [e]
    exact H sz ns a4 a5 a6 a7 a8
  | succ d ih =>
    intro v sz ns a4 a5 a6 a7 a8 l hd hl hs wf h2 ht
    have hv : v < 5 := by omega
    have h16 : 2 ^ v ≤ 16 := by
      have : 2 ^ v ≤ 2 ^ 4 := Nat.pow_le_pow_right (by omega) (by omega)
      exact this
    refine pk_le 5 v (fun z => absurd z (by omega)) (fun _ => ?_) en
    refine mb_all35 hP ob hv (by omega) hs wf h2 (fun b4 b5 b6 b7 b8 g => ?_)
    refine ih (v + 1) _ _ b4 b5 b6 b7 b8 (mb_bc P v l l.length) (by omega) ?_ rfl (mb_bc_wf P v wf _) g (by rw [mb_bc_tot P hv l]; exact ht)
    have := mb_bc_len P v l l.length
    rw [Nat.pow_succ]
    omega
theorem mb_allowedSets {post : Int32 → St2 → Prop} {J W : Nat → Nat} {FI FO w : Nat} (o : mb_O J W FI FO w fn fw fi fo a1 a2)
    (H : ∀ (mi mo sz ns : Int32) (a3 a4 a5 a6 a7 a8 : Nat → Int32), post (nI (mb_C (mb_PG J W FI FO) 0 31).length) (fn, fw, fi, fo, mi, mo, sz, ns, cu, cs, ex, bv, bt, a1, a2, a3, a4, a5, a6, a7, a8, a9, a10, a11, a12, a13, a14, a15, a16, a17)) : wpX_allowedSets post (fn, fw, fi, fo, mi, mo, sz, ns, cu, cs, ex, bv, bt, a1, a2, a3, a4, a5, a6, a7, a8, a9, a10, a11, a12, a13, a14, a15, a16, a17) := by
  unfold wpX_allowedSets
  refine mb_takeWeights o (fun b3 g3 => ?_)
  refine mb_start ?_
  have ob : mb_ob (mb_PG J W FI FO) fi fo a1 b3 := by
    obtain ⟨_, _, _, _, o1, _, o2, _, o3⟩ := o
    exact ⟨o1, o2, fun v hv => ⟨(o3 v hv).1, g3 v hv⟩⟩
  refine ⟨5 + 1, mb_all20 (mb_PG_ok o) ob o.1 (fun sz ns a4 a5 a6 a7 a8 => H _ _ sz ns _ a4 a5 a6 a7 a8) 5 0 _ _ _ _ _ _ _ [(31, 1)] (by omega) (by decide) rfl (fun m hm => by rw [List.mem_singleton.mp hm]; decide) ⟨mb_m_one ?_, mb_m_one rfl⟩ ?_⟩
  · rw [o.1]; rfl
  · show 1 * mb_g (mb_PG J W FI FO) 0 31 + 0 = _
    unfold mb_g
    omega
end
end
section
def mb_rk (W : Nat → Nat) : Nat → Nat
  | 0 => 0
  | k + 1 => mb_rk W k + W (4 - k)
def mb_rs (W : Nat → Nat) (v : Nat) : Nat := mb_rk W (5 - v)
theorem mb_rs_s (W : Nat → Nat) {v : Nat} (hv : v < 5) : mb_rs W v = mb_rs W (v + 1) + W v := by
  unfold mb_rs
  rw [show 5 - v = (4 - v) + 1 by omega, show 5 - (v + 1) = 4 - v by omega, mb_rk, show 4 - (4 - v) = v by omega]
theorem mb_C_rk (P : mb_P) : ∀ (k S : Nat) (p : Nat × Nat), p ∈ mb_cl P k S → p.2 ≤ mb_rk P.2.1 k := by
  intro k
  induction k with
  | zero =>
    intro S p hp
    rw [mb_cl] at hp
    rw [List.mem_singleton.mp hp]
    exact Nat.zero_le _
  | succ k ih =>
    intro S p hp
    rw [mb_cl, List.mem_append] at hp
    rw [mb_rk]
    rcases hp with hp | hp
    · by_cases c : P.2.2.1.testBit (4 - k) = true
      · rw [if_pos c] at hp; exact absurd hp (by simp)
      · rw [if_neg c] at hp
        have := ih _ p hp
        omega
    · by_cases c : S.testBit (4 - k) = true ∧ P.2.2.2.testBit (4 - k) = false
      · rw [if_pos c] at hp
        obtain ⟨q, hq, e⟩ := List.mem_map.mp hp
        have := ih _ q hq
        rw [← e]
        show q.2 + P.2.1 (4 - k) ≤ _
        omega
      · rw [if_neg c] at hp; exact absurd hp (by simp)
def mb_cn (P : mb_P) (b : Nat) (e : Nat × mb_Nd) : Nat := (mb_C P e.1 e.2.1).countP (fun p => decide (b ≤ e.2.2.1 + p.2))
def mb_cs (P : mb_P) (b : Nat) : List (Nat × mb_Nd) → Nat
  | [] => 0
  | e :: l => mb_cn P b e + mb_cs P b l
theorem mb_cs_app (P : mb_P) (b : Nat) : ∀ (x y : List (Nat × mb_Nd)), mb_cs P b (x ++ y) = mb_cs P b x + mb_cs P b y
  | [], y => by
    show mb_cs P b y = 0 + mb_cs P b y
    omega
  | e :: x, y => by
    show mb_cn P b e + mb_cs P b (x ++ y) = mb_cn P b e + mb_cs P b x + mb_cs P b y
    rw [mb_cs_app P b x y]
    omega
def mb_s1 (P : mb_P) (e : Nat × mb_Nd) : List (Nat × mb_Nd) := if P.2.2.1.testBit e.1 = true then [] else [(e.1 + 1, mb_dr e.1 e.2.1, e.2.2.1, 0)]
def mb_s2 (P : mb_P) (e : Nat × mb_Nd) : List (Nat × mb_Nd) := if e.2.1.testBit e.1 = true ∧ P.2.2.2.testBit e.1 = false then [(e.1 + 1, mb_tk (P.1 e.1) e.1 e.2.1, e.2.2.1 + P.2.1 e.1, 0)] else []
theorem mb_cn_5 (P : mb_P) (b : Nat) (e : Nat × mb_Nd) (h : e.1 = 5) : mb_cn P b e = if b ≤ e.2.2.1 then 1 else 0 := by
  unfold mb_cn
  rw [h, mb_C5, List.countP_cons, List.countP_nil]
  show 0 + (if decide (b ≤ e.2.2.1 + 0) = true then 1 else 0) = _
  rw [Nat.add_zero, Nat.zero_add]
  by_cases c : b ≤ e.2.2.1
  · rw [if_pos c, if_pos (decide_eq_true c)]
  · rw [if_neg c, if_neg (by rw [decide_eq_false c]; decide)]
theorem mb_cn_0 (P : mb_P) (b : Nat) (e : Nat × mb_Nd) (h : e.2.2.1 + mb_rs P.2.1 e.1 < b) : mb_cn P b e = 0 := by
  unfold mb_cn
  rw [List.countP_eq_zero]
  intro p hp z
  have := mb_C_rk P _ _ p hp
  have z' := of_decide_eq_true z
  unfold mb_rs at h
  omega
theorem mb_cn_s (P : mb_P) (b : Nat) (e : Nat × mb_Nd) (h : e.1 < 5) : mb_cn P b e = mb_cs P b (mb_s1 P e ++ mb_s2 P e) := by
  rw [mb_cs_app]
  unfold mb_cn mb_s1 mb_s2
  rw [mb_Cs P e.2.1 h, List.countP_append]
  congr 1
  · by_cases c : P.2.2.1.testBit e.1 = true
    · rw [if_pos c, if_pos c]; rfl
    · rw [if_neg c, if_neg c]
      show _ = _ + 0
      rw [Nat.add_zero]
      rfl
  · by_cases c : e.2.1.testBit e.1 = true ∧ P.2.2.2.testBit e.1 = false
    · rw [if_pos c, if_pos c, List.countP_map]
      show _ = (mb_C P (e.1 + 1) (mb_tk (P.1 e.1) e.1 e.2.1)).countP (fun p => decide (b ≤ e.2.2.1 + P.2.1 e.1 + p.2)) + 0
      rw [Nat.add_zero]
      congr 1
      funext p
      show decide (b ≤ e.2.2.1 + (p.2 + P.2.1 e.1)) = decide (b ≤ e.2.2.1 + P.2.1 e.1 + p.2)
      rw [show e.2.2.1 + (p.2 + P.2.1 e.1) = e.2.2.1 + P.2.1 e.1 + p.2 by omega]
    · rw [if_neg c, if_neg c]; rfl
theorem mb_w3 : ∀ v, v < 5 → 2 * (2 ^ (6 - (v + 1)) - 1) + 1 ≤ 2 ^ (6 - v) - 1 := by decide
theorem mb_s1_W (P : mb_P) (e : Nat × mb_Nd) : mb_W (mb_s1 P e) ≤ 2 ^ (6 - (e.1 + 1)) - 1 := by
  unfold mb_s1
  by_cases c : P.2.2.1.testBit e.1 = true
  · rw [if_pos c, mb_W_nil]; exact Nat.zero_le _
  · rw [if_neg c, mb_W_cons, mb_W_nil]
    exact Nat.le_refl _
theorem mb_s2_W (P : mb_P) (e : Nat × mb_Nd) : mb_W (mb_s2 P e) ≤ 2 ^ (6 - (e.1 + 1)) - 1 := by
  unfold mb_s2
  by_cases c : e.2.1.testBit e.1 = true ∧ P.2.2.2.testBit e.1 = false
  · rw [if_pos c, mb_W_cons, mb_W_nil]
    exact Nat.le_refl _
  · rw [if_neg c, mb_W_nil]; exact Nat.zero_le _
def mb_eok (e : Nat × mb_Nd) : Prop := e.1 ≤ 5 ∧ e.2.1 < 32 ∧ e.2.2.1 ≤ 70000 * e.1
theorem mb_s_ok {P : mb_P} (hP : mb_Pok P) {e : Nat × mb_Nd} (h : mb_eok e) (hv : e.1 < 5) : ∀ x, x ∈ mb_s1 P e ++ mb_s2 P e → mb_eok x := by
  obtain ⟨h1, h2, h3⟩ := h
  have g := (hP.1 e.1 hv).2
  intro x hx
  rcases List.mem_append.mp hx with hx | hx
  · unfold mb_s1 at hx
    by_cases c : P.2.2.1.testBit e.1 = true
    · rw [if_pos c] at hx; exact absurd hx (by simp)
    · rw [if_neg c] at hx
      rw [List.mem_singleton.mp hx]
      exact ⟨by show e.1 + 1 ≤ 5; omega, mb_dr_lt h2, by show e.2.2.1 ≤ 70000 * (e.1 + 1); omega⟩
  · unfold mb_s2 at hx
    by_cases c : e.2.1.testBit e.1 = true ∧ P.2.2.2.testBit e.1 = false
    · rw [if_pos c] at hx
      rw [List.mem_singleton.mp hx]
      exact ⟨by show e.1 + 1 ≤ 5; omega, mb_tk_lt h2, by show e.2.2.1 + P.2.1 e.1 ≤ 70000 * (e.1 + 1); omega⟩
    · rw [if_neg c] at hx; exact absurd hx (by simp)
def mb_AI (P : mb_P) (b tot step found : Nat) (st : List (Nat × mb_Nd)) : Prop := step + mb_W st ≤ 63 ∧ (∀ e, e ∈ st → mb_eok e) ∧ found + mb_cs P b st = tot
theorem mb_AI_pop {P : mb_P} {b tot step found f' : Nat} {st : List (Nat × mb_Nd)} {e : Nat × mb_Nd} (h : mb_AI P b tot step found (st ++ [e])) (hf : f' = found + mb_cn P b e) : mb_AI P b tot (step + 1) f' st ∧ mb_W st + 1 ≤ mb_W (st ++ [e]) := by
  obtain ⟨h1, h2, h3⟩ := h
  have he := h2 e (List.mem_append_right _ (List.mem_singleton.mpr rfl))
  have w := mb_w1 e.1 (by have := he.1; omega)
  have k : mb_W st + 1 ≤ mb_W (st ++ [e]) := by
    rw [mb_W_app, mb_W_cons, mb_W_nil]
    omega
  refine ⟨⟨by omega, fun x hx => h2 x (List.mem_append_left _ hx), ?_⟩, k⟩
  rw [mb_cs_app] at h3
  have h3' : found + (mb_cs P b st + (mb_cn P b e + 0)) = tot := h3
  omega
theorem mb_AI_psh {P : mb_P} (hP : mb_Pok P) {b tot step found : Nat} {st : List (Nat × mb_Nd)} {e : Nat × mb_Nd} (h : mb_AI P b tot step found (st ++ [e])) (hv : e.1 < 5) : mb_AI P b tot (step + 1) found (st ++ mb_s1 P e ++ mb_s2 P e) ∧ mb_W (st ++ mb_s1 P e ++ mb_s2 P e) + 1 ≤ mb_W (st ++ [e]) := by
  obtain ⟨h1, h2, h3⟩ := h
  have he := h2 e (List.mem_append_right _ (List.mem_singleton.mpr rfl))
  have w := mb_w3 e.1 hv
  have w1 := mb_s1_W P e
  have w2 := mb_s2_W P e
  have k : mb_W (st ++ mb_s1 P e ++ mb_s2 P e) + 1 ≤ mb_W (st ++ [e]) := by
    rw [mb_W_app, mb_W_app, mb_W_app, mb_W_cons, mb_W_nil]
    omega
  refine ⟨⟨by omega, fun x hx => ?_, ?_⟩, k⟩
  · rw [List.append_assoc] at hx
    rcases List.mem_append.mp hx with hx | hx
    · exact h2 x (List.mem_append_left _ hx)
    · exact mb_s_ok hP he hv x hx
  · rw [mb_cs_app] at h3
    rw [List.append_assoc, mb_cs_app, ← mb_cn_s P b e hv]
    have h3' : found + (mb_cs P b st + (mb_cn P b e + 0)) = tot := h3
    omega
def mb_mS (st : List (Nat × mb_Nd)) (a b c : Nat → Int32) : Prop := mb_m st (fun e => e.1) a ∧ mb_m st (fun e => e.2.1) b ∧ mb_m st (fun e => e.2.2.1) c
theorem mb_mS_app {st : List (Nat × mb_Nd)} {a b c : Nat → Int32} {k : Nat} {e : Nat × mb_Nd} {x y z : Int32} (h : mb_mS st a b c) (hk : k = st.length) (hx : x = nI e.1) (hy : y = nI e.2.1) (hz : z = nI e.2.2.1) : mb_mS (st ++ [e]) (upd a k x) (upd b k y) (upd c k z) :=
  ⟨mb_m_app h.1 hk hx, mb_m_app h.2.1 hk hy, mb_m_app h.2.2 hk hz⟩
/-- joined, weights, mustIn, mustOut stand in the object -/
def mb_ow (P : mb_P) (mi mo : Int32) (a1 a2 : Nat → Int32) : Prop := mi = nI P.2.2.1 ∧ mo = nI P.2.2.2 ∧ ∀ v, v < 5 → a1 v = nI (P.1 v) ∧ a2 v = nI (P.2.1 v)
section
variable {fn fw fi fo mi mo sz ns cu cs ex bv bt : Int32} {a1 a2 a3 a4 a5 a6 a7 a8 a9 a10 a11 a12 a13 a14 a15 a16 a17 : Nat → Int32}
theorem mb_al216 {post : Int32 → St2 → Prop} {J87 : Int32 → Int32 → Int32 → (Nat → Int32) → (Nat → Int32) → (Nat → Int32) → (Nat → Int32) → (Nat → Int32) → (Nat → Int32) → (Nat → Int32) → (Nat → Int32) → (Nat → Int32) → (Nat → Int32) → (Nat → Int32) → (Nat → Int32) → (Nat → Int32) → (Nat → Int32) → (Nat → Int32) → (Nat → Int32) → (Nat → Int32) → Prop} {P : mb_P} (hP : mb_Pok P) (ow : mb_ow P mi mo a1 a2) {x1 x3 x4 : Int32} {st : List (Nat × mb_Nd)} {e : Nat × mb_Nd} (hv : e.1 < 5) (he : mb_eok e) (hq : st.length ≤ 200) (hm : mb_mS st a13 a14 a15)
    (H : ∀ b13 b14 b15, mb_mS (st ++ mb_s2 P e) b13 b14 b15 → J87 (nI (st ++ mb_s2 P e).length) x3 (x4 + 1) a1 a2 a3 a4 a5 a6 a7 a8 a9 a10 a11 a12 b13 b14 b15 a16 a17) :
    wX_atLeast_216 post J87 x1 (nI st.length) x3 x4 (nI e.1) (nI e.2.1) (nI e.2.2.1) (nI (2 ^ e.1)) fn fw fi fo mi mo sz ns cu cs ex bv bt a1 a2 a3 a4 a5 a6 a7 a8 a9 a10 a11 a12 a13 a14 a15 a16 a17 := by
  obtain ⟨em, eo, o⟩ := ow
  subst em eo
  have o1 := (o e.1 hv).1
  have o2 := (o e.1 hv).2
  have pj := (hP.1 e.1 hv).1
  have p : vp_in (nI st.length) 256 := pk_in st.length 256 (by omega)
  have p' : vp_in (nI e.1) 12 := pk_in e.1 12 (by omega)
  unfold wX_atLeast_216
  rw [nI_clamp (show st.length < 2 ^ 31 by omega), nI_clamp (show e.1 < 2 ^ 31 by omega), o1, o2]
  refine ek_if (mb_t2 e.1 hv e.2.1 he.2.1) (fun z => nm_e ?_) (fun z => ek_if (mb_t2 e.1 hv P.2.2.2 hP.2.2) (fun y => ⟨p, nm_e ⟨p', p, nm_e ⟨p', p, nm_e (nm_r (nI_1 _) (nm_e ?_))⟩⟩⟩) (fun y => nm_e ?_))
  · have q : mb_s2 P e = [] := if_neg (fun c => by rw [z] at c; exact absurd c.1 (by decide))
    rw [q, List.append_nil] at H
    exact H _ _ _ hm
  · have z' : e.2.1.testBit e.1 = true := by
      cases c : e.2.1.testBit e.1
      · exact absurd c z
      · rfl
    have q : mb_s2 P e = [(e.1 + 1, mb_tk (P.1 e.1) e.1 e.2.1, e.2.2.1 + P.2.1 e.1, 0)] := if_pos ⟨z', y⟩
    rw [q] at H
    have t := H _ _ _ (mb_mS_app (x := nI e.1 + 1) (y := (nI e.2.1 &&& (nI (2 ^ e.1) ^^^ (-1))) &&& (nI (P.1 e.1) ^^^ (-1))) (z := nI e.2.2.1 + nI (P.2.1 e.1)) hm rfl (nI_1 _) (mb_t4 hv he.2.1 pj) (nI_add _ _))
    rw [List.length_append] at t
    exact t
  · have q : mb_s2 P e = [] := if_neg (fun c => y c.2)
    rw [q, List.append_nil] at H
    exact H _ _ _ hm
theorem mb_al87 {post : Int32 → St2 → Prop} {P : mb_P} (hP : mb_Pok P) (ow : mb_ow P mi mo a1 a2) {b tot : Nat} (hb : b < 1000000) (en : fn = 5) (h17 : ∀ j, j ≤ 5 → a17 j = nI (mb_rs P.2.1 j)) (hrs : ∀ j, j ≤ 5 → mb_rs P.2.1 j ≤ 1000000)
    (H : ∀ (a13 a14 a15 : Nat → Int32), post (nI tot) (fn, fw, fi, fo, mi, mo, sz, ns, cu, cs, ex, bv, bt, a1, a2, a3, a4, a5, a6, a7, a8, a9, a10, a11, a12, a13, a14, a15, a16, a17)) :
    ∀ (d step found : Nat) (a13 a14 a15 : Nat → Int32) (st : List (Nat × mb_Nd)), mb_W st ≤ d → mb_AI P b tot step found st → mb_mS st a13 a14 a15 → wX_atLeast_87 post (nI b) fn fw fi fo mi mo sz ns cu cs ex bv bt (d + 1) (nI st.length) (nI found) (nI step) a1 a2 a3 a4 a5 a6 a7 a8 a9 a10 a11 a12 a13 a14 a15 a16 a17 := by
  intro d
  induction d with
  | zero =>
    intro step found a13 a14 a15 st hW hS hm
    have hlen := mb_W_len st (fun e he => (hS.2.1 e he).1)
    have hs := hS.1
    have e0 : st = [] := List.eq_nil_of_length_eq_zero (by omega)
    subst e0
    have ht : found + 0 = tot := hS.2.2
    rw [Nat.add_zero] at ht
    subst ht
    exact pk_le 8192 step (fun z => absurd z (by omega)) (fun _ => pk_le 0 0 (fun _ => H a13 a14 a15) (fun z => absurd z (by omega)))
  | succ d ih =>
    intro step found a13 a14 a15 st hW hS hm
    have hlen := mb_W_len st (fun e he => (hS.2.1 e he).1)
    have hs := hS.1
    refine pk_le 8192 step (fun z => absurd z (by omega)) (fun _ => pk_le st.length 0 (fun z => ?_) (fun z => ?_))
    · have e0 : st = [] := List.eq_nil_of_length_eq_zero (by omega)
      subst e0
      have ht : found + 0 = tot := hS.2.2
      rw [Nat.add_zero] at ht
      subst ht
      exact H a13 a14 a15
    · obtain ⟨st', e, est⟩ : ∃ st' e, st = st' ++ [e] := by
        have hne : st ≠ [] := fun q => by rw [q] at z; exact absurd z (by simp)
        exact ⟨st.dropLast, st.getLast hne, (List.dropLast_concat_getLast hne).symm⟩
      subst est
      have hl1 : (st' ++ [e]).length = st'.length + 1 := by rw [List.length_append]; rfl
      have he : e ∈ st' ++ [e] := List.mem_append_right _ (List.mem_singleton.mpr rfl)
      have ek := hS.2.1 e he
      obtain ⟨q1, q2, q3⟩ := ek
      have p : vp_in (nI st'.length) 256 := pk_in st'.length 256 (by omega)
      have ci : (nI st'.length).toNatClampNeg = st'.length := nI_clamp (by omega)
      have m' : mb_mS st' a13 a14 a15 := ⟨mb_m_pre hm.1, mb_m_pre hm.2.1, mb_m_pre hm.2.2⟩
      have r1 : a13 st'.length = nI e.1 := mb_m_last hm.1
      have r2 : a14 st'.length = nI e.2.1 := mb_m_last hm.2.1
      have r3 : a15 st'.length = nI e.2.2.1 := mb_m_last hm.2.2
      have ce : (nI e.1).toNatClampNeg = e.1 := nI_clamp (by omega)
      refine nm_r (show nI (st' ++ [e]).length + (-1) = nI st'.length by rw [hl1]; exact pk_m1 _) ?_
      rw [ci, r1, r2, r3]
      refine ⟨p, nm_e ⟨p, nm_e ⟨p, nm_e ?_⟩⟩⟩
      refine pk_eq e.1 5 (fun e5 => ?_) (fun e5 => ⟨pk_in e.1 13 (by omega), ?_⟩) rfl en
      · have cn := mb_cn_5 P b e e5
        refine pk_lt e.2.2.1 b (fun y => ?_) (fun y => ?_)
        · rw [if_neg (by omega)] at cn
          obtain ⟨s1, s2⟩ := mb_AI_pop (f' := found + 0) hS (by omega)
          exact nm_r (e' := nI (found + 0)) (nI_add _ 0) (nm_r (nI_1 step) (ih (step + 1) (found + 0) a13 a14 a15 st' (by omega) s1 m'))
        · rw [if_pos y] at cn
          obtain ⟨s1, s2⟩ := mb_AI_pop (f' := found + 1) hS (by omega)
          exact nm_r (nI_1 found) (nm_r (nI_1 step) (ih (step + 1) (found + 1) a13 a14 a15 st' (by omega) s1 m'))
      · have hv : e.1 < 5 := by omega
        have hr := hrs e.1 q1
        rw [ce, h17 e.1 q1, nI_add]
        refine pk_lt (e.2.2.1 + mb_rs P.2.1 e.1) b (fun y => ?_) (fun y => nm_r (mb_t1 e.1 (by omega)) ?_)
        · have cn := mb_cn_0 P b e y
          obtain ⟨s1, s2⟩ := mb_AI_pop (f' := found) hS (by omega)
          exact nm_r (nI_1 step) (ih (step + 1) found a13 a14 a15 st' (by omega) s1 m')
        · obtain ⟨s1, s2⟩ := mb_AI_psh hP hS hv
          have hln := mb_W_len _ (fun e he => (s1.2.1 e he).1)
          have hs1 := s1.1
          have fin : ∀ (b13 b14 b15 : Nat → Int32), mb_mS (st' ++ mb_s1 P e) b13 b14 b15 → wX_atLeast_216 post (wX_atLeast_87 post (nI b) fn fw fi fo mi mo sz ns cu cs ex bv bt (d + 1)) (nI b) (nI (st' ++ mb_s1 P e).length) (nI found) (nI step) (nI e.1) (nI e.2.1) (nI e.2.2.1) (nI (2 ^ e.1)) fn fw fi fo mi mo sz ns cu cs ex bv bt a1 a2 a3 a4 a5 a6 a7 a8 a9 a10 a11 a12 b13 b14 b15 a16 a17 := by
            intro b13 b14 b15 g
            rw [List.length_append] at hln
            refine mb_al216 hP ow hv ⟨q1, q2, q3⟩ (by omega) g (fun c13 c14 c15 g' => ?_)
            rw [nI_1]
            exact ih (step + 1) found c13 c14 c15 _ (by omega) s1 g'
          have em := ow.1
          rw [em]
          refine ek_if (mb_t2 e.1 hv P.2.2.1 hP.2.1) (fun x => ⟨p, nm_e ⟨p, nm_e ⟨p, nm_e (nm_r (nI_1 _) ?_)⟩⟩⟩) (fun x => ?_)
          · have q : mb_s1 P e = [(e.1 + 1, mb_dr e.1 e.2.1, e.2.2.1, 0)] := if_neg (by rw [x]; decide)
            rw [q, List.length_append, em] at fin
            exact fin _ _ _ (mb_mS_app (x := nI e.1 + 1) (y := nI e.2.1 &&& (nI (2 ^ e.1) ^^^ (-1))) m' rfl (nI_1 _) (mb_t3 hv q2) rfl)
          · have x' : P.2.2.1.testBit e.1 = true := by
              cases c : P.2.2.1.testBit e.1
              · exact absurd c x
              · rfl
            have q : mb_s1 P e = [] := if_pos x'
            rw [q, List.append_nil, em] at fin
            exact fin _ _ _ m'
theorem mb_al21 {post : Int32 → St2 → Prop} {P : mb_P} (ow : mb_ow P mi mo a1 a2) {y : Int32} (en : fn = 5)
    (H : ∀ b17 : Nat → Int32, (∀ j, j ≤ 5 → b17 j = nI (mb_rs P.2.1 j)) → ∃ fu, wX_atLeast_87 post y fn fw fi fo mi mo sz ns cu cs ex bv bt fu 1 0 0 a1 a2 a3 a4 a5 a6 a7 a8 a9 a10 a11 a12 (upd a13 0 0) (upd a14 0 (nI 31)) (upd a15 0 0) a16 b17) :
    ∀ (k : Nat) (b17 : Nat → Int32), k ≤ 5 → (∀ j, k ≤ j → j ≤ 5 → b17 j = nI (mb_rs P.2.1 j)) → wX_atLeast_21 post y fn fw fi fo mi mo sz ns cu cs ex bv bt (k + 1) (nI k - 1) a1 a2 a3 a4 a5 a6 a7 a8 a9 a10 a11 a12 a13 a14 a15 a16 b17 := by
  intro k
  induction k with
  | zero =>
    intro b17 _ h
    exact br_t (by decide) (nm_e (nm_r (e' := upd a14 0 (nI 31)) (by rw [en]; rfl) (nm_e (H b17 (fun j hj => h j (by omega) hj)))))
  | succ k ih =>
    intro b17 hk h
    rw [nI_pred]
    refine br_f (nI_pos (by omega)) ?_
    rw [nI_1, nI_clamp (show k + 1 < 2 ^ 31 by omega), nI_clamp (show k < 2 ^ 31 by omega), h (k + 1) (by omega) (by omega), (ow.2.2 k (by omega)).2, nI_add]
    refine ⟨pk_in (k + 1) 13 (by omega), pk_in k 12 (by omega), pk_in k 13 (by omega), nm_e (nm_r (e' := nI k - 1) (by rw [Int32.sub_eq_add_neg]) (ih _ (by omega) (fun j h1 h2 => ?_)))⟩
    by_cases c : j = k
    · rw [c, pk_us, mb_rs_s P.2.1 (show k < 5 by omega)]
    · rw [pk_un c]
      exact h j (by omega) h2
theorem mb_atLeast {post : Int32 → St2 → Prop} {J W : Nat → Nat} {FI FO w : Nat} (o : mb_O J W FI FO w fn fw fi fo a1 a2) {b : Nat} (hb : b < 1000000)
    (H : ∀ (mi mo : Int32) (a3 a13 a14 a15 a17 : Nat → Int32), post (nI ((mb_C (mb_PW J W FI FO) 0 31).countP (fun p => decide (b ≤ p.2)))) (fn, fw, fi, fo, mi, mo, sz, ns, cu, cs, ex, bv, bt, a1, a2, a3, a4, a5, a6, a7, a8, a9, a10, a11, a12, a13, a14, a15, a16, a17)) : wpX_atLeast post (fn, fw, fi, fo, mi, mo, sz, ns, cu, cs, ex, bv, bt, a1, a2, a3, a4, a5, a6, a7, a8, a9, a10, a11, a12, a13, a14, a15, a16, a17) (nI b) := by
  have ow : mb_ow (mb_PW J W FI FO) fi fo a1 a2 := by
    obtain ⟨_, _, _, _, o1, _, o2, _, o3⟩ := o
    exact ⟨o1, o2, fun v hv => ⟨(o3 v hv).1, (o3 v hv).2.2.1⟩⟩
  have o0 := o.1
  have hW : ∀ v, v < 5 → W v ≤ 15 := fun v hv => (o.2.2.2.2.2.2.2.2 v hv).2.2.2
  have hrk : ∀ k, k ≤ 5 → mb_rk W k ≤ 15 * k := by
    intro k
    induction k with
    | zero => intro _; exact Nat.zero_le _
    | succ k ih =>
      intro hk
      have h1 := ih (by omega)
      have h2 := hW (4 - k) (by omega)
      rw [mb_rk]
      omega
  unfold wpX_atLeast
  refine mb_takeWeights o (fun b3 g3 => ⟨pk_in 5 13 (by omega) o0, ?_⟩)
  rw [show fn.toNatClampNeg = 5 by rw [o0]; rfl]
  refine nm_e (nm_r (e' := nI 5 - 1) (by rw [o0]; rfl) ⟨5 + 1, ?_⟩)
  refine mb_al21 ow o0 (fun b17 h17 => ⟨63 + 1, ?_⟩) 5 _ (by omega) (fun j h1 h2 => ?_)
  · have cn : mb_cn (mb_PW J W FI FO) b (0, 31, 0, 0) = (mb_C (mb_PW J W FI FO) 0 31).countP (fun p => decide (b ≤ p.2)) := by
      unfold mb_cn
      congr 1
      funext p
      show decide (b ≤ 0 + p.2) = decide (b ≤ p.2)
      rw [Nat.zero_add]
    refine mb_al87 (tot := (mb_C (mb_PW J W FI FO) 0 31).countP (fun p => decide (b ≤ p.2))) (mb_PW_ok o) ow hb o0 h17 (fun j hj => ?_) (fun a13 a14 a15 => H _ _ _ a13 a14 a15 _) 63 0 0 _ _ _ [(0, 31, 0, 0)] (by decide) ⟨by decide, fun e he => ?_, ?_⟩ ⟨mb_m_one rfl, mb_m_one rfl, mb_m_one rfl⟩
    · have := hrk (5 - j) (by omega)
      show mb_rk W (5 - j) ≤ 1000000
      omega
    · rw [List.mem_singleton.mp he]
      exact ⟨by decide, by decide, by decide⟩
    · rw [← cn]
      show 0 + (mb_cn (mb_PW J W FI FO) b (0, 31, 0, 0) + 0) = _
      omega
  · have ej : j = 5 := by omega
    rw [ej, pk_us]
    rfl
end
end
section
def mb_en : Nat → List Nat
  | 0 => [0]
  | k + 1 => mb_en k ++ (mb_en k).map (fun T => T + 2 ^ (4 - k))
def mb_ok (P : mb_P) : Nat → Nat → Nat → Bool
  | 0, _, _ => true
  | k + 1, S, T => if T.testBit (4 - k) = true then (S.testBit (4 - k) && !P.2.2.2.testBit (4 - k) && mb_ok P k (mb_tk (P.1 (4 - k)) (4 - k) S) T) else (!P.2.2.1.testBit (4 - k) && mb_ok P k (mb_dr (4 - k) S) T)
def mb_gk (G : Nat → Nat) : Nat → Nat → Nat
  | 0, _ => 0
  | k + 1, T => mb_gk G k T + if T.testBit (4 - k) = true then G (4 - k) else 0
theorem mb_en_f : ∀ k, k < 5 → ∀ T, T ∈ mb_en k → T.testBit (4 - k) = false ∧ (T + 2 ^ (4 - k)).testBit (4 - k) = true ∧ ∀ u, u < 5 → 4 - k < u → (T + 2 ^ (4 - k)).testBit u = T.testBit u := by decide +kernel
theorem mb_ok_c (P : mb_P) : ∀ (k S T T' : Nat), k ≤ 5 → (∀ u, u < 5 → 5 - k ≤ u → T'.testBit u = T.testBit u) → mb_ok P k S T' = mb_ok P k S T := by
  intro k
  induction k with
  | zero => intro S T T' _ _; rfl
  | succ k ih =>
    intro S T T' hk h
    rw [mb_ok, mb_ok, h (4 - k) (by omega) (by omega), ih _ T T' (by omega) (fun u h1 h2 => h u h1 (by omega)), ih _ T T' (by omega) (fun u h1 h2 => h u h1 (by omega))]
theorem mb_gk_c (G : Nat → Nat) : ∀ (k T T' : Nat), k ≤ 5 → (∀ u, u < 5 → 5 - k ≤ u → T'.testBit u = T.testBit u) → mb_gk G k T' = mb_gk G k T := by
  intro k
  induction k with
  | zero => intro T T' _ _; rfl
  | succ k ih =>
    intro T T' hk h
    rw [mb_gk, mb_gk, h (4 - k) (by omega) (by omega), ih T T' (by omega) (fun u h1 h2 => h u h1 (by omega))]
theorem mb_cl_en (P : mb_P) : ∀ (k S : Nat), k ≤ 5 → mb_cl P k S = ((mb_en k).filter (mb_ok P k S)).map (fun T => (T, mb_gk P.2.1 k T)) := by
  intro k
  induction k with
  | zero => intro S _; rfl
  | succ k ih =>
    intro S hk
    have f := mb_en_f k (by omega)
    rw [mb_cl, mb_en, List.filter_append, List.map_append]
    congr 1
    · by_cases c : P.2.2.1.testBit (4 - k) = true
      · have e : (mb_en k).filter (mb_ok P (k + 1) S) = [] := by
          rw [List.filter_eq_nil_iff]
          intro T hT
          rw [mb_ok, (f T hT).1, c]
          simp
        rw [if_pos c, e]
        rfl
      · have c' : P.2.2.1.testBit (4 - k) = false := by
          cases q : P.2.2.1.testBit (4 - k)
          · rfl
          · exact absurd q c
        have e : (mb_en k).filter (mb_ok P (k + 1) S) = (mb_en k).filter (mb_ok P k (mb_dr (4 - k) S)) := by
          apply List.filter_congr
          intro T hT
          rw [mb_ok, (f T hT).1, c']
          simp
        rw [if_neg c, e, ih _ (by omega)]
        apply List.map_congr_left
        intro T hT
        have hT' := (List.mem_filter.mp hT).1
        rw [mb_gk, (f T hT').1]
        simp
    · rw [List.filter_map, List.map_map]
      by_cases c : S.testBit (4 - k) = true ∧ P.2.2.2.testBit (4 - k) = false
      · have e : (mb_en k).filter (mb_ok P (k + 1) S ∘ fun T => T + 2 ^ (4 - k)) = (mb_en k).filter (mb_ok P k (mb_tk (P.1 (4 - k)) (4 - k) S)) := by
          apply List.filter_congr
          intro T hT
          show mb_ok P (k + 1) S (T + 2 ^ (4 - k)) = _
          rw [mb_ok, (f T hT).2.1, c.1, c.2, mb_ok_c P k _ T (T + 2 ^ (4 - k)) (by omega) (fun u h1 h2 => (f T hT).2.2 u h1 (by omega))]
          simp
        rw [if_pos c, e, ih _ (by omega), List.map_map]
        apply List.map_congr_left
        intro T hT
        have hT' := (List.mem_filter.mp hT).1
        show (T + 2 ^ (4 - k), mb_gk P.2.1 k T + P.2.1 (4 - k)) = (T + 2 ^ (4 - k), mb_gk P.2.1 (k + 1) (T + 2 ^ (4 - k)))
        rw [mb_gk, (f T hT').2.1, mb_gk_c P.2.1 k T (T + 2 ^ (4 - k)) (by omega) (fun u h1 h2 => (f T hT').2.2 u h1 (by omega))]
        simp
      · have e : (mb_en k).filter (mb_ok P (k + 1) S ∘ fun T => T + 2 ^ (4 - k)) = [] := by
          rw [List.filter_eq_nil_iff]
          intro T hT
          show ¬ mb_ok P (k + 1) S (T + 2 ^ (4 - k)) = true
          rw [mb_ok, (f T hT).2.1]
          intro z
          simp at z
          exact c ⟨z.1.1, z.1.2⟩
        rw [if_neg c, e]
        rfl
theorem mb_dr_b {v S u : Nat} (hu : u < 5) (h : u ≠ v) : (mb_dr v S).testBit u = S.testBit u := by
  have q : ∀ u, u < 5 → Nat.testBit 31 u = true := by decide
  unfold mb_dr
  rw [Nat.testBit_and, Nat.testBit_xor, q u hu, Nat.testBit_two_pow, decide_eq_false (fun z => h z.symm)]
  simp
theorem mb_tk_b {v S u j : Nat} (hu : u < 5) (h : u ≠ v) : (mb_tk j v S).testBit u = (S.testBit u && !j.testBit u) := by
  have q : ∀ u, u < 5 → Nat.testBit 31 u = true := by decide
  have t := mb_dr_b (S := S) hu h
  unfold mb_dr at t
  unfold mb_tk
  rw [Nat.testBit_and, t, Nat.testBit_xor, q u hu]
  simp
/-- what the search takes for a set that fits, said of bits -/
theorem mb_ok_iff (P : mb_P) : ∀ (k S T : Nat), k ≤ 5 → (mb_ok P k S T = true ↔ ((∀ v, 5 - k ≤ v → v < 5 → T.testBit v = true → S.testBit v = true) ∧ (∀ u v, 5 - k ≤ u → u < v → v < 5 → T.testBit u = true → T.testBit v = true → (P.1 u).testBit v = false) ∧ (∀ v, 5 - k ≤ v → v < 5 → (T.testBit v = true → P.2.2.2.testBit v = false) ∧ (T.testBit v = false → P.2.2.1.testBit v = false)))) := by
  intro k
  induction k with
  | zero =>
    intro S T _
    exact ⟨fun _ => ⟨fun v h1 h2 => absurd h1 (by omega), fun u v h1 h2 h3 => absurd h1 (by omega), fun v h1 h2 => absurd h1 (by omega)⟩, fun _ => rfl⟩
  | succ k ih =>
    intro S T hk
    rw [mb_ok]
    by_cases c : T.testBit (4 - k) = true
    · rw [if_pos c, Bool.and_eq_true, Bool.and_eq_true, ih _ T (by omega)]
      constructor
      · rintro ⟨⟨g1, g2⟩, g3, g4, g5⟩
        have g2' : P.2.2.2.testBit (4 - k) = false := by simpa using g2
        refine ⟨fun v h1 h2 h3 => ?_, fun u v h1 h2 h3 h4 h5 => ?_, fun v h1 h2 => ?_⟩
        · by_cases e : v = 4 - k
          · rw [e]; exact g1
          · have := g3 v (by omega) h2 h3
            rw [mb_tk_b h2 e, Bool.and_eq_true] at this
            exact this.1
        · by_cases e : u = 4 - k
          · have := g3 v (by omega) h3 h5
            rw [mb_tk_b h3 (by omega), Bool.and_eq_true] at this
            rw [e]
            simpa using this.2
          · exact g4 u v (by omega) h2 h3 h4 h5
        · by_cases e : v = 4 - k
          · rw [e]
            exact ⟨fun _ => g2', fun z => by rw [c] at z; exact absurd z (by decide)⟩
          · exact g5 v (by omega) h2
      · rintro ⟨g3, g4, g5⟩
        refine ⟨⟨g3 _ (by omega) (by omega) c, by rw [(g5 _ (by omega) (by omega)).1 c]; rfl⟩, fun v h1 h2 h3 => ?_, fun u v h1 h2 h3 h4 h5 => g4 u v (by omega) h2 h3 h4 h5, fun v h1 h2 => g5 v (by omega) h2⟩
        rw [mb_tk_b h2 (by omega), g3 v (by omega) h2 h3, g4 (4 - k) v (by omega) (by omega) h2 c h3]
        rfl
    · have c' : T.testBit (4 - k) = false := by
        cases q : T.testBit (4 - k)
        · rfl
        · exact absurd q c
      rw [if_neg c, Bool.and_eq_true, ih _ T (by omega)]
      constructor
      · rintro ⟨g2, g3, g4, g5⟩
        have g2' : P.2.2.1.testBit (4 - k) = false := by simpa using g2
        refine ⟨fun v h1 h2 h3 => ?_, fun u v h1 h2 h3 h4 h5 => ?_, fun v h1 h2 => ?_⟩
        · have e : v ≠ 4 - k := fun e => by rw [e] at h3; exact absurd h3 c
          have := g3 v (by omega) h2 h3
          rw [mb_dr_b h2 e] at this
          exact this
        · have e : u ≠ 4 - k := fun e => by rw [e] at h4; exact absurd h4 c
          exact g4 u v (by omega) h2 h3 h4 h5
        · by_cases e : v = 4 - k
          · rw [e]
            exact ⟨fun z => absurd z c, fun _ => g2'⟩
          · exact g5 v (by omega) h2
      · rintro ⟨g3, g4, g5⟩
        refine ⟨by rw [(g5 _ (by omega) (by omega)).2 c']; rfl, fun v h1 h2 h3 => ?_, fun u v h1 h2 h3 h4 h5 => g4 u v (by omega) h2 h3 h4 h5, fun v h1 h2 => g5 v (by omega) h2⟩
        rw [mb_dr_b h2 (by omega)]
        exact g3 v (by omega) h2 h3
def mb_ds (n : Nat) : List Nat := (List.range n).map (fun k => 31 - k)
theorem mb_ds_s (n : Nat) : mb_ds (n + 1) = mb_ds n ++ [31 - n] := by
  unfold mb_ds
  rw [List.range_succ, List.map_append]
  rfl
theorem mb_ds_mem {n T : Nat} (hn : n ≤ 32) : T ∈ mb_ds n ↔ T < 32 ∧ 32 - n ≤ T := by
  unfold mb_ds
  rw [List.mem_map]
  constructor
  · rintro ⟨k, hk, e⟩
    have := List.mem_range.mp hk
    omega
  · rintro ⟨h1, h2⟩
    exact ⟨31 - T, List.mem_range.mpr (by omega), by omega⟩
theorem mb_en_p : (mb_en 5).Perm (mb_ds 32) := by decide +kernel
theorem mb_en_mem {T : Nat} : T ∈ mb_en 5 ↔ T < 32 := by
  rw [mb_en_p.mem_iff, mb_ds_mem (by omega)]
  omega
theorem mb_sm_add (f g : Nat → Nat) : ∀ n, mb_sm (fun v => f v + g v) n = mb_sm f n + mb_sm g n
  | 0 => rfl
  | n + 1 => by
    rw [mb_sm, mb_sm, mb_sm, mb_sm_add f g n]
    omega
theorem mb_sm_mul (c : Nat) (f : Nat → Nat) : ∀ n, mb_sm (fun v => c * f v) n = c * mb_sm f n
  | 0 => rfl
  | n + 1 => by
    rw [mb_sm, mb_sm, mb_sm_mul c f n, Nat.mul_add]
theorem mb_gk_ws (G : Nat → Nat) (T : Nat) : mb_gk G 5 T = mb_ws G T := by
  show ((((0 + (if T.testBit 4 = true then G 4 else 0)) + (if T.testBit 3 = true then G 3 else 0)) + (if T.testBit 2 = true then G 2 else 0)) + (if T.testBit 1 = true then G 1 else 0)) + (if T.testBit 0 = true then G 0 else 0) = ((((0 + (if T.testBit 0 = true then G 0 else 0)) + (if T.testBit 1 = true then G 1 else 0)) + (if T.testBit 2 = true then G 2 else 0)) + (if T.testBit 3 = true then G 3 else 0)) + (if T.testBit 4 = true then G 4 else 0)
  generalize (if T.testBit 4 = true then G 4 else 0) = x4
  generalize (if T.testBit 3 = true then G 3 else 0) = x3
  generalize (if T.testBit 2 = true then G 2 else 0) = x2
  generalize (if T.testBit 1 = true then G 1 else 0) = x1
  generalize (if T.testBit 0 = true then G 0 else 0) = x0
  omega
theorem mb_ws2 : ∀ T, T < 32 → mb_ws (fun v => 2 ^ v) T = T := by decide +kernel
theorem mb_wsG (W : Nat → Nat) {T : Nat} (hT : T < 32) : mb_ws (fun v => 4096 * W v + 2 ^ v) T = 4096 * mb_ws W T + T := by
  have e : mb_ws (fun v => 4096 * W v + 2 ^ v) T = 4096 * mb_ws W T + mb_ws (fun v => 2 ^ v) T := by
    unfold mb_ws
    rw [← mb_sm_mul, ← mb_sm_add]
    congr 1
    funext v
    by_cases c : T.testBit v = true
    · rw [if_pos c, if_pos c, if_pos c]
    · rw [if_neg c, if_neg c, if_neg c]
  rw [e, mb_ws2 T hT]
theorem mb_C_mem (P : mb_P) (p : Nat × Nat) : p ∈ mb_C P 0 31 ↔ ∃ T, T < 32 ∧ mb_ok P 5 31 T = true ∧ p = (T, mb_ws P.2.1 T) := by
  show p ∈ mb_cl P 5 31 ↔ _
  rw [mb_cl_en P 5 31 (by omega), List.mem_map]
  constructor
  · rintro ⟨T, hT, e⟩
    obtain ⟨h1, h2⟩ := List.mem_filter.mp hT
    exact ⟨T, mb_en_mem.mp h1, h2, by rw [← e, mb_gk_ws]⟩
  · rintro ⟨T, h1, h2, e⟩
    exact ⟨T, List.mem_filter.mpr ⟨mb_en_mem.mpr h1, h2⟩, by rw [e, mb_gk_ws]⟩
theorem mb_C_cnt (P : mb_P) (q : Nat × Nat → Bool) : (mb_C P 0 31).countP q = (mb_ds 32).countP (fun T => mb_ok P 5 31 T && q (T, mb_ws P.2.1 T)) := by
  show (mb_cl P 5 31).countP q = _
  rw [mb_cl_en P 5 31 (by omega), List.countP_map, List.countP_filter, mb_en_p.countP_eq]
  congr 1
  funext T
  show (q (T, mb_gk P.2.1 5 T) && mb_ok P 5 31 T) = _
  rw [mb_gk_ws, Bool.and_comm]
theorem mb_C_len (P : mb_P) : (mb_C P 0 31).length = (mb_ds 32).countP (fun T => mb_ok P 5 31 T) := by
  have t := mb_C_cnt P (fun _ => true)
  rw [List.countP_true] at t
  rw [t]
  congr 1
  funext T
  rw [Bool.and_true]
theorem mb_ok_G (J G G' : Nat → Nat) (MI MO : Nat) : ∀ k S T, mb_ok (J, G, MI, MO) k S T = mb_ok (J, G', MI, MO) k S T
  | 0, _, _ => rfl
  | k + 1, S, T => by
    rw [mb_ok, mb_ok, mb_ok_G J G G' MI MO k, mb_ok_G J G G' MI MO k]
end
section
/-! the law's own table, after n sets (31, 30, .. 32 - n): F fits, I is independent, ws the worth, zs the size -/
def mb_LA (F : Nat → Bool) (n : Nat) (x8 : Int32) : Prop := x8 = nI ((mb_ds n).countP F)
def mb_LR (F : Nat → Bool) (ws : Nat → Nat) (b n : Nat) (x10 : Int32) : Prop := x10 = nI ((mb_ds n).countP (fun T => F T && decide (b ≤ ws T)))
def mb_LB (F : Nat → Bool) (ws : Nat → Nat) (n : Nat) (x6 x7 x9 : Int32) : Prop :=
  (x6 = -1 ∧ x7 = -1 ∧ x9 = 0 ∧ ∀ T, T ∈ mb_ds n → F T = false) ∨
  ∃ c, c ∈ mb_ds n ∧ F c = true ∧ x6 = nI (ws c) ∧ x7 = nI c ∧ (∀ T, T ∈ mb_ds n → F T = true → ws T < ws c ∨ (ws T = ws c ∧ T ≤ c)) ∧ x9 = nI ((mb_ds n).countP (fun T => F T && decide (ws T = ws c)))
def mb_LC (I : Nat → Bool) (zs : Nat → Nat) (n : Nat) (x11 x12 : Int32) : Prop :=
  (x12 = 0 ∧ x11 = 31 ∧ ∀ T, T ∈ mb_ds n → I T = true → zs T = 0) ∨
  ∃ c, c ∈ mb_ds n ∧ I c = true ∧ 0 < zs c ∧ x12 = nI (zs c) ∧ x11 = nI (31 - c) ∧ ∀ T, T ∈ mb_ds n → I T = true → zs T < zs c ∨ (zs T = zs c ∧ T ≤ c)
theorem mb_cnt_s (p : Nat → Bool) (n : Nat) : (mb_ds (n + 1)).countP p = (mb_ds n).countP p + if p (31 - n) = true then 1 else 0 := by
  rw [mb_ds_s, List.countP_append, List.countP_cons, List.countP_nil, Nat.zero_add]
theorem mb_mem_s {n T : Nat} (h : T ∈ mb_ds (n + 1)) : T ∈ mb_ds n ∨ T = 31 - n := by
  rw [mb_ds_s] at h
  rcases List.mem_append.mp h with h | h
  · exact Or.inl h
  · exact Or.inr (List.mem_singleton.mp h)
theorem mb_mem_o {n T : Nat} (h : T ∈ mb_ds n) : T ∈ mb_ds (n + 1) := by
  rw [mb_ds_s]
  exact List.mem_append_left _ h
theorem mb_mem_n (n : Nat) : 31 - n ∈ mb_ds (n + 1) := by
  rw [mb_ds_s]
  exact List.mem_append_right _ (List.mem_singleton.mpr rfl)
section
variable {F I : Nat → Bool} {ws zs : Nat → Nat} {n b : Nat} {x6 x7 x8 x9 x10 x11 x12 : Int32}
theorem mb_LA_0 (h : mb_LA F n x8) (hF : F (31 - n) = false) : mb_LA F (n + 1) x8 := by
  unfold mb_LA at h ⊢
  rw [mb_cnt_s, hF, if_neg (by decide), Nat.add_zero]
  exact h
theorem mb_LA_1 (h : mb_LA F n x8) (hF : F (31 - n) = true) : mb_LA F (n + 1) (x8 + 1) := by
  unfold mb_LA at h ⊢
  rw [mb_cnt_s, hF, if_pos rfl, h, nI_1]
theorem mb_LR_0 (h : mb_LR F ws b n x10) (hF : F (31 - n) = false ∨ ws (31 - n) < b) : mb_LR F ws b (n + 1) x10 := by
  unfold mb_LR at h ⊢
  rw [mb_cnt_s]
  have e : (F (31 - n) && decide (b ≤ ws (31 - n))) = false := by
    rcases hF with z | z
    · rw [z]; rfl
    · rw [decide_eq_false (by omega), Bool.and_false]
  rw [if_neg (by rw [e]; decide), Nat.add_zero]
  exact h
theorem mb_LR_1 (h : mb_LR F ws b n x10) (hF : F (31 - n) = true) (hb : b ≤ ws (31 - n)) : mb_LR F ws b (n + 1) (x10 + 1) := by
  unfold mb_LR at h ⊢
  rw [mb_cnt_s]
  have e : (F (31 - n) && decide (b ≤ ws (31 - n))) = true := by
    rw [hF, decide_eq_true hb]; rfl
  rw [if_pos e, h, nI_1]
theorem mb_LB_0 (h : mb_LB F ws n x6 x7 x9) (hF : F (31 - n) = false) : mb_LB F ws (n + 1) x6 x7 x9 := by
  rcases h with ⟨h1, h2, h3, h4⟩ | ⟨c, h1, h2, h3, h4, h5, h6⟩
  · refine Or.inl ⟨h1, h2, h3, fun T hT => ?_⟩
    rcases mb_mem_s hT with z | z
    · exact h4 T z
    · rw [z]; exact hF
  · refine Or.inr ⟨c, mb_mem_o h1, h2, h3, h4, fun T hT hF' => ?_, ?_⟩
    · rcases mb_mem_s hT with z | z
      · exact h5 T z hF'
      · rw [z, hF] at hF'; exact absurd hF' (by decide)
    · rw [mb_cnt_s]
      have e : (F (31 - n) && decide (ws (31 - n) = ws c)) = false := by rw [hF]; rfl
      rw [if_neg (by rw [e]; decide), Nat.add_zero]
      exact h6
/-- a set that fits and is worth less, or as much -/
theorem mb_LB_1 {c : Nat} (hn : n < 32) (hc : c ∈ mb_ds n) (h2 : F c = true) (h5 : ∀ T, T ∈ mb_ds n → F T = true → ws T < ws c ∨ (ws T = ws c ∧ T ≤ c)) (hF : F (31 - n) = true) (hw : ws (31 - n) ≤ ws c) :
    mb_LB F ws (n + 1) (nI (ws c)) (nI c) (nI ((mb_ds n).countP (fun T => F T && decide (ws T = ws c)) + if ws (31 - n) = ws c then 1 else 0)) := by
  have q := (mb_ds_mem (by omega)).mp hc
  refine Or.inr ⟨c, mb_mem_o hc, h2, rfl, rfl, fun T hT hF' => ?_, ?_⟩
  · rcases mb_mem_s hT with z | z
    · exact h5 T z hF'
    · rw [z]; omega
  · rw [mb_cnt_s]
    by_cases e : ws (31 - n) = ws c
    · rw [if_pos e, if_pos (by rw [hF, decide_eq_true e]; rfl)]
    · rw [if_neg e, if_neg (by rw [hF, decide_eq_false e]; decide)]
/-- a set that fits and is worth more than all before -/
theorem mb_LB_2 (hF : F (31 - n) = true) (h : ∀ T, T ∈ mb_ds n → F T = true → ws T < ws (31 - n)) : mb_LB F ws (n + 1) (nI (ws (31 - n))) (nI (31 - n)) 1 := by
  refine Or.inr ⟨31 - n, mb_mem_n n, hF, rfl, rfl, fun T hT hF' => ?_, ?_⟩
  · rcases mb_mem_s hT with z | z
    · exact Or.inl (h T z hF')
    · rw [z]; exact Or.inr ⟨rfl, Nat.le_refl _⟩
  · rw [mb_cnt_s, if_pos (by rw [hF, decide_eq_true rfl]; rfl)]
    have e : (mb_ds n).countP (fun T => F T && decide (ws T = ws (31 - n))) = 0 := by
      rw [List.countP_eq_zero]
      intro T hT z
      rw [Bool.and_eq_true] at z
      have := h T hT z.1
      have := of_decide_eq_true z.2
      omega
    rw [e]
    rfl
theorem mb_LC_0 (h : mb_LC I zs n x11 x12) (hI : I (31 - n) = false) : mb_LC I zs (n + 1) x11 x12 := by
  rcases h with ⟨h1, h2, h3⟩ | ⟨c, h1, h2, h3, h4, h5, h6⟩
  · refine Or.inl ⟨h1, h2, fun T hT hT' => ?_⟩
    rcases mb_mem_s hT with z | z
    · exact h3 T z hT'
    · rw [z, hI] at hT'; exact absurd hT' (by decide)
  · refine Or.inr ⟨c, mb_mem_o h1, h2, h3, h4, h5, fun T hT hT' => ?_⟩
    rcases mb_mem_s hT with z | z
    · exact h6 T z hT'
    · rw [z, hI] at hT'; exact absurd hT' (by decide)
/-- the size so far -/
def mb_zz (x12 : Int32) (z : Nat) : Prop := x12 = nI z ∧ z ≤ 5
theorem mb_LC_z (hz : ∀ T, T < 32 → zs T ≤ 5) (hn : n ≤ 32) (h : mb_LC I zs n x11 x12) : ∃ z, x12 = nI z ∧ z ≤ 5 ∧ (zs (31 - n) ≤ z → mb_LC I zs (n + 1) x11 x12) ∧ (z < zs (31 - n) → I (31 - n) = true → mb_LC I zs (n + 1) (nI (31 - (31 - n))) (nI (zs (31 - n)))) := by
  rcases h with ⟨h1, h2, h3⟩ | ⟨c, h1, h2, h3, h4, h5, h6⟩
  · refine ⟨0, h1, by omega, fun z0 => Or.inl ⟨h1, h2, fun T hT hT' => ?_⟩, fun z0 hI => Or.inr ⟨31 - n, mb_mem_n n, hI, z0, rfl, rfl, fun T hT hT' => ?_⟩⟩
    · rcases mb_mem_s hT with z | z
      · exact h3 T z hT'
      · rw [z]; omega
    · rcases mb_mem_s hT with z | z
      · have := h3 T z hT'; omega
      · rw [z]; exact Or.inr ⟨rfl, Nat.le_refl _⟩
  · have q := (mb_ds_mem hn).mp h1
    refine ⟨zs c, h4, hz c q.1, fun z0 => Or.inr ⟨c, mb_mem_o h1, h2, h3, h4, h5, fun T hT hT' => ?_⟩, fun z0 hI => Or.inr ⟨31 - n, mb_mem_n n, hI, by omega, rfl, rfl, fun T hT hT' => ?_⟩⟩
    · rcases mb_mem_s hT with z | z
      · exact h6 T z hT'
      · rw [z]; omega
    · rcases mb_mem_s hT with z | z
      · have := h6 T z hT'; omega
      · rw [z]; exact Or.inr ⟨rfl, Nat.le_refl _⟩
end
end
section
def mb_ed (x : Int32) (u v : Nat) : Bool := decide (((x >>> ((((nI v * (nI v - 1)) / 2) + nI u) &&& 31)) &&& 1) = 1)
def mb_Wt (x : Int32) (v : Nat) : Nat := (x >>> ((5 * nI v) &&& 31)).toBitVec.toNat % 2 ^ 4
def mb_Hw (x : Int32) (v : Nat) : Nat := (x >>> ((3 * nI v) &&& 31)).toBitVec.toNat % 2 ^ 3 % 3
theorem mb_Wt_e (x : Int32) (v : Nat) : (x >>> ((5 * nI v) &&& 31)) &&& 15 = nI (mb_Wt x v) := pk_and _ 4 (by decide)
theorem mb_Wt_le (x : Int32) (v : Nat) : mb_Wt x v ≤ 15 := by
  have : mb_Wt x v < 2 ^ 4 := Nat.mod_lt _ (by decide)
  omega
theorem mb_Hw_e (x : Int32) (v : Nat) : ((x >>> ((3 * nI v) &&& 31)) &&& 7) - ((x >>> ((3 * nI v) &&& 31)) &&& 7) / 3 * 3 = nI (mb_Hw x v) := by
  have h : (x >>> ((3 * nI v) &&& 31)).toBitVec.toNat % 2 ^ 3 < 2 ^ 3 := Nat.mod_lt _ (by decide)
  rw [pk_and _ 3 (by decide)]
  exact pk_rem (d := 3) (by omega) (by omega) (by omega)
theorem mb_Hw_lt (x : Int32) (v : Nat) : mb_Hw x v < 3 := Nat.mod_lt _ (by decide)
theorem mb_joined {post : Int32 → Prop} {x : Int32} {u v : Nat} (H1 : mb_ed x u v = true → post 1) (H0 : mb_ed x u v = false → post 0) : wpL_joined post () x (nI u) (nI v) := by
  unfold wpL_joined
  exact ⟨by decide, br_c (fun z => H1 (decide_eq_true z)) (fun z => H0 (decide_eq_false z))⟩
/-- the law's test of independence -/
def mb_in (x : Int32) (T : Nat) : Prop := ∀ v, v < 5 → ∀ u, u < v → T.testBit u = true → T.testBit v = true → mb_ed x u v = false
theorem mb_in9 {post : Int32 → Prop} {J2 : Int32 → Prop} {x : Int32} {T v : Nat} (hT : T < 32) (hv : v < 5) (H1 : (∀ u, u < v → T.testBit u = true → T.testBit v = true → mb_ed x u v = false) → J2 (nI (v + 1))) (H0 : (∃ u, u < v ∧ T.testBit u = true ∧ T.testBit v = true ∧ mb_ed x u v = true) → post 0) :
    ∃ fu, wL_independent_9 post J2 x (nI T) (nI v) fu 0 := by
  refine pk_loop (σ := Unit) (fun k i _ => wL_independent_9 post J2 x (nI T) (nI v) k (nI i)) (fun i _ => ∀ u, u < i → T.testBit u = true → T.testBit v = true → mb_ed x u v = false) v 0 () (by omega) (fun u z => absurd z (by omega)) ?_ ?_
  · intro k _ h
    exact pk_le v v (fun _ => nm_r (nI_1 v) (H1 h)) (fun z => absurd z (by omega))
  · intro k i _ hi h hc
    refine pk_le v i (fun z => absurd z (by omega)) (fun _ => ek_if (mb_tb1 (by omega) hT) (fun b1 => ek_if (mb_tb1 (by omega) hT) (fun b2 => ?_) (fun b2 => ?_)) (fun b1 => ?_))
    · refine mb_joined (fun e => br_f (by decide) (H0 ⟨i, hi, b1, b2, e⟩)) (fun e => br_t rfl (nm_r (nI_1 i) (hc () (fun u hu t1 t2 => ?_))))
      by_cases c : u = i
      · rw [c]; exact e
      · exact h u (by omega) t1 t2
    · refine nm_r (nI_1 i) (hc () (fun u hu t1 t2 => absurd t2 b2))
    · refine nm_r (nI_1 i) (hc () (fun u hu t1 t2 => ?_))
      by_cases c : u = i
      · rw [c] at t1; exact absurd t1 b1
      · exact h u (by omega) t1 t2
theorem mb_indep {post : Int32 → Prop} {x : Int32} {T : Nat} (hT : T < 32) (H1 : mb_in x T → post 1) (H0 : ¬ mb_in x T → post 0) : wpL_independent post () x (nI T) := by
  unfold wpL_independent
  refine pk_loop (σ := Unit) (fun k i _ => wL_independent_2 post x (nI T) k (nI i)) (fun i _ => ∀ v, v < i → ∀ u, u < v → T.testBit u = true → T.testBit v = true → mb_ed x u v = false) 5 1 () (by omega) (fun v hv u hu => absurd hu (by omega)) ?_ ?_
  · intro k _ h
    exact pk_le 5 5 (fun _ => H1 h) (fun z => absurd z (by omega))
  · intro k i _ hi h hc
    refine pk_le 5 i (fun z => absurd z (by omega)) (fun _ => mb_in9 hT hi (fun g => hc () (fun v hv => ?_)) (fun g => H0 (fun z => ?_)))
    · by_cases c : v = i
      · rw [c]; exact g
      · exact h v (by omega)
    · obtain ⟨u, h1, h2, h3, h4⟩ := g
      rw [z i hi u h1 h2 h3] at h4
      exact absurd h4 (by decide)
def mb_bi (f : Bool) : Int32 := if f = true then 1 else 0
theorem mb_bi_t : mb_bi true = 1 := rfl
theorem mb_bi_f : mb_bi false = 0 := rfl
/-- the law's test of what is forced, at one vertex -/
def mb_hk (x : Int32) (T v : Nat) : Bool := !(decide (mb_Hw x v = 1) && !T.testBit v) && !(decide (mb_Hw x v = 2) && T.testBit v)
def mb_fv (i : Bool) (x : Int32) (T : Nat) : Nat → Bool
  | 0 => i
  | v + 1 => mb_fv i x T v && mb_hk x T v
def mb_LI (F I : Nat → Bool) (ws zs : Nat → Nat) (b n : Nat) (x6 x7 x8 x9 x10 x11 x12 : Int32) : Prop := mb_LB F ws n x6 x7 x9 ∧ mb_LA F n x8 ∧ mb_LR F ws b n x10 ∧ mb_LC I zs n x11 x12
section
variable {fn fw fi fo mi mo sz ns cu cs ex bv bt : Int32} {a1 a2 a3 a4 a5 a6 a7 a8 a9 a10 a11 a12 a13 a14 a15 a16 a17 : Nat → Int32}
variable {post : Int32 → St0 → Prop} {mc ms kc ks : Nat} {x1 x2 x3 x6 x7 x8 x9 x10 x11 x12 x13 x14 x15 x16 x17 x18 x19 x20 x21 x22 x23 : Int32}
variable {J132 J141 : Int32 → Int32 → Int32 → Int32 → Int32 → Int32 → Int32 → Int32 → Prop} {J177 : Int32 → Int32 → Int32 → Int32 → Prop}
variable {F I : Nat → Bool} {ws zs : Nat → Nat} {n b : Nat}
theorem mb_l322 (hn : n < 32) (hz : ∀ T, T < 32 → zs T ≤ 5) (h : mb_LC I zs n x11 x12) (e17 : x17 = mb_bi (I (31 - n)))
    (H : ∀ y11 y12, mb_LC I zs (n + 1) y11 y12 → J141 x6 x7 x8 x9 x10 y11 y12 (x15 + (-1))) :
    wL_lawOf_322 post mc ms J132 J141 x1 x2 x3 x6 x7 x8 x9 x10 x11 x12 x13 x14 x15 (nI (31 - n)) x17 (nI (zs (31 - n))) kc ks fn fw fi fo mi mo sz ns cu cs ex bv bt a1 a2 a3 a4 a5 a6 a7 a8 a9 a10 a11 a12 a13 a14 a15 a16 a17 := by
  subst e17
  unfold wL_lawOf_322
  cases e : I (31 - n)
  · exact br_t rfl (br_t rfl (nm_e (H _ _ (mb_LC_0 h e))))
  · obtain ⟨z, z1, z2, z3, z4⟩ := mb_LC_z hz (by omega) h
    have hzt := hz (31 - n) (by omega)
    subst z1
    refine br_f (by decide) (pk_le (zs (31 - n)) z (fun le => ?_) (fun gt => nm_r (e' := nI (31 - (31 - n))) (pk_sub (a := 31) (by omega)) ?_))
    · exact br_f (by decide) (pk_le (zs (31 - n)) z (fun _ => nm_e (H _ _ (z3 le))) (fun gt => absurd gt (by omega)))
    · exact br_f (by decide) (pk_le (zs (31 - n)) z (fun le => absurd le (by omega)) (fun _ => nm_e (H _ _ (z4 gt e))))
theorem mb_l307 (hn : n < 32) (hz : ∀ T, T < 32 → zs T ≤ 5) (hw : ∀ T, T < 32 → ws T ≤ 1000) (hb : b ≤ 31) (h : mb_LC I zs n x11 x12) (hR : mb_LR F ws b n x10) (e17 : x17 = mb_bi (I (31 - n))) (e20 : x20 = mb_bi (F (31 - n)))
    (H : ∀ y10 y11 y12, mb_LR F ws b (n + 1) y10 → mb_LC I zs (n + 1) y11 y12 → J141 x6 x7 x8 x9 y10 y11 y12 (x15 + (-1))) :
    wL_lawOf_307 post mc ms J132 J141 x1 x2 x3 x6 x7 x8 x9 x10 x11 x12 (nI b) x14 x15 (nI (31 - n)) x17 (nI (ws (31 - n))) (nI (zs (31 - n))) x20 kc ks fn fw fi fo mi mo sz ns cu cs ex bv bt a1 a2 a3 a4 a5 a6 a7 a8 a9 a10 a11 a12 a13 a14 a15 a16 a17 := by
  subst e20
  unfold wL_lawOf_307
  have hwt := hw (31 - n) (by omega)
  cases e : F (31 - n)
  · exact br_t rfl (mb_l322 hn hz h e17 (fun y11 y12 g => H _ _ _ (mb_LR_0 hR (Or.inl e)) g))
  · refine br_f (by decide) (pk_lt (ws (31 - n)) b (fun lt => ?_) (fun ge => nm_e ?_))
    · exact mb_l322 hn hz h e17 (fun y11 y12 g => H _ _ _ (mb_LR_0 hR (Or.inr lt)) g)
    · exact mb_l322 hn hz h e17 (fun y11 y12 g => H _ _ _ (mb_LR_1 hR e ge) g)
theorem mb_l299 (hn : n < 32) (hz : ∀ T, T < 32 → zs T ≤ 5) (hw : ∀ T, T < 32 → ws T ≤ 1000) (hb : b ≤ 31) (h : mb_LC I zs n x11 x12) (hR : mb_LR F ws b n x10) (hA : mb_LA F n x8) (e17 : x17 = mb_bi (I (31 - n))) (e20 : x20 = mb_bi (F (31 - n)))
    (H : ∀ y8 y10 y11 y12, mb_LA F (n + 1) y8 → mb_LR F ws b (n + 1) y10 → mb_LC I zs (n + 1) y11 y12 → J141 x6 x7 y8 x9 y10 y11 y12 (x15 + (-1))) :
    wL_lawOf_299 post mc ms J132 J141 x1 x2 x3 x6 x7 x8 x9 x10 x11 x12 (nI b) x14 x15 (nI (31 - n)) x17 (nI (ws (31 - n))) (nI (zs (31 - n))) x20 kc ks fn fw fi fo mi mo sz ns cu cs ex bv bt a1 a2 a3 a4 a5 a6 a7 a8 a9 a10 a11 a12 a13 a14 a15 a16 a17 := by
  have e20' := e20
  subst e20
  unfold wL_lawOf_299
  cases e : F (31 - n)
  · rw [e] at e20'
    exact br_t rfl (mb_l307 hn hz hw hb h hR e17 (by rw [e]) (fun y10 y11 y12 g1 g2 => H _ _ _ _ (mb_LA_0 hA e) g1 g2))
  · exact br_f (by decide) (nm_e (mb_l307 hn hz hw hb h hR e17 (by rw [e]) (fun y10 y11 y12 g1 g2 => H _ _ _ _ (mb_LA_1 hA e) g1 g2)))
theorem mb_l177x {k : Nat} (hn : n < 32) (hz : ∀ T, T < 32 → zs T ≤ 5) (hw : ∀ T, T < 32 → ws T ≤ 1000) (hb : b ≤ 31) (h : mb_LI F I ws zs b n x6 x7 x8 x9 x10 x11 x12) (e17 : x17 = mb_bi (I (31 - n))) (e20 : x20 = mb_bi (F (31 - n)))
    (H : ∀ y6 y7 y8 y9 y10 y11 y12, mb_LI F I ws zs b (n + 1) y6 y7 y8 y9 y10 y11 y12 → J141 y6 y7 y8 y9 y10 y11 y12 (x15 + (-1))) :
    wL_lawOf_177 post mc ms J132 J141 x1 x2 x3 x6 x7 x8 x9 x10 x11 x12 (nI b) x14 x15 (nI (31 - n)) x17 kc ks fn fw fi fo mi mo sz ns cu cs ex bv bt a1 a2 a3 a4 a5 a6 a7 a8 a9 a10 a11 a12 a13 a14 a15 a16 a17 (k + 1) (nI (ws (31 - n))) (nI (zs (31 - n))) x20 (nI 5) := by
  obtain ⟨hB, hA, hR, hC⟩ := h
  have hwt := hw (31 - n) (by omega)
  have T : ∀ z6 z7 z9, mb_LB F ws (n + 1) z6 z7 z9 → wL_lawOf_299 post mc ms J132 J141 x1 x2 x3 z6 z7 x8 z9 x10 x11 x12 (nI b) x14 x15 (nI (31 - n)) x17 (nI (ws (31 - n))) (nI (zs (31 - n))) x20 kc ks fn fw fi fo mi mo sz ns cu cs ex bv bt a1 a2 a3 a4 a5 a6 a7 a8 a9 a10 a11 a12 a13 a14 a15 a16 a17 :=
    fun z6 z7 z9 g => mb_l299 hn hz hw hb hC hR hA e17 e20 (fun y8 y10 y11 y12 g1 g2 g3 => H _ _ _ _ _ _ _ ⟨g, g1, g2, g3⟩)
  refine pk_le 5 5 (fun _ => ?_) (fun z => absurd z (by omega))
  cases e : F (31 - n)
  · rw [e] at e20
    subst e20
    exact br_t rfl (br_t rfl (T _ _ _ (mb_LB_0 hB e)))
  · rw [e] at e20
    subst e20
    refine br_f (by decide) ?_
    rcases hB with ⟨h1, h2, h3, h4⟩ | ⟨c, h1, h2, h3, h4, h5, h6⟩
    · subst h1 h2 h3
      have m1 : (-1 : Int32).toInt = -1 := by decide
      have ti : (nI (ws (31 - n))).toInt = (ws (31 - n) : Int) := nI_toInt (by omega)
      refine br_f (fun q => ?_) (br_f (by decide) (br_f (fun q => ?_) (T _ _ _ (mb_LB_2 e (fun T hT hF => ?_)))))
      · have q' := congrArg Int32.toInt q
        rw [m1, ti] at q'
        omega
      · have q' := Int32.le_iff_toInt_le.mp q
        rw [m1, ti] at q'
        omega
      · rw [h4 T hT] at hF
        exact absurd hF (by decide)
    · subst h3 h4 h6
      have hwc := hw c ((mb_ds_mem (by omega)).mp h1).1
      refine pk_eq (ws (31 - n)) (ws c) (fun eq => nm_r (nI_1 _) ?_) (fun ne => ?_)
      · have g := mb_LB_1 hn h1 h2 h5 e (by omega)
        rw [if_pos eq] at g
        exact br_f (by decide) (pk_le (ws (31 - n)) (ws c) (fun _ => T _ _ _ g) (fun z => absurd z (by omega)))
      · refine br_f (by decide) (pk_le (ws (31 - n)) (ws c) (fun le => ?_) (fun gt => ?_))
        · have g := mb_LB_1 hn h1 h2 h5 e le
          rw [if_neg ne, Nat.add_zero] at g
          exact T _ _ _ g
        · refine T _ _ _ (mb_LB_2 e (fun T hT hF => ?_))
          have := h5 T hT hF
          omega
theorem mb_l231 {T v : Nat} (t : J177 (nI (mb_sm (fun v => if T.testBit v = true then mb_Wt x2 v else 0) (v + 1))) (nI (mb_sm (fun v => if T.testBit v = true then 1 else 0) (v + 1))) x20 (nI (v + 1))) :
    wL_lawOf_231 post mc ms J132 J141 J177 x1 x2 x3 x6 x7 x8 x9 x10 x11 x12 x13 x14 x15 x16 x17 (nI (mb_sm (fun v => if T.testBit v = true then mb_Wt x2 v else 0) v)) (nI (mb_sm (fun v => if T.testBit v = true then 1 else 0) v)) x20 (nI v) (nI (if T.testBit v = true then 1 else 0)) kc ks fn fw fi fo mi mo sz ns cu cs ex bv bt a1 a2 a3 a4 a5 a6 a7 a8 a9 a10 a11 a12 a13 a14 a15 a16 a17 := by
  unfold wL_lawOf_231
  rw [mb_Wt_e, pk_mul, nI_add, nI_add, nI_1]
  rw [mb_sm, mb_sm] at t
  have e : (if T.testBit v = true then 1 else 0) * mb_Wt x2 v = if T.testBit v = true then mb_Wt x2 v else 0 := by
    by_cases c : T.testBit v = true
    · rw [if_pos c, if_pos c, Nat.one_mul]
    · rw [if_neg c, if_neg c, Nat.zero_mul]
  rw [e]
  exact nm_e (nm_e (nm_e t))
theorem mb_l177 {T : Nat} {i : Bool} (hT : T < 32)
    (H : ∀ k, wL_lawOf_177 post mc ms J132 J141 x1 x2 x3 x6 x7 x8 x9 x10 x11 x12 x13 x14 x15 (nI T) x17 kc ks fn fw fi fo mi mo sz ns cu cs ex bv bt a1 a2 a3 a4 a5 a6 a7 a8 a9 a10 a11 a12 a13 a14 a15 a16 a17 (k + 1) (nI (mb_ws (mb_Wt x2) T)) (nI (mb_ws (fun _ => 1) T)) (mb_bi (mb_fv i x3 T 5)) (nI 5)) :
    ∃ fu, wL_lawOf_177 post mc ms J132 J141 x1 x2 x3 x6 x7 x8 x9 x10 x11 x12 x13 x14 x15 (nI T) x17 kc ks fn fw fi fo mi mo sz ns cu cs ex bv bt a1 a2 a3 a4 a5 a6 a7 a8 a9 a10 a11 a12 a13 a14 a15 a16 a17 fu 0 0 (mb_bi i) 0 := by
  refine pk_loop (σ := Unit) (fun k v _ => wL_lawOf_177 post mc ms J132 J141 x1 x2 x3 x6 x7 x8 x9 x10 x11 x12 x13 x14 x15 (nI T) x17 kc ks fn fw fi fo mi mo sz ns cu cs ex bv bt a1 a2 a3 a4 a5 a6 a7 a8 a9 a10 a11 a12 a13 a14 a15 a16 a17 k (nI (mb_sm (fun v => if T.testBit v = true then mb_Wt x2 v else 0) v)) (nI (mb_sm (fun v => if T.testBit v = true then 1 else 0) v)) (mb_bi (mb_fv i x3 T v)) (nI v)) (fun _ _ => True) 5 0 () (by omega) trivial ?_ ?_
  · intro k _ _
    exact H k
  · intro k v _ hv _ hc
    have t := hc () trivial
    have h3 := mb_Hw_lt x3 v
    have ef : mb_fv i x3 T (v + 1) = (mb_fv i x3 T v && mb_hk x3 T v) := rfl
    refine pk_le 5 v (fun z => absurd z (by omega)) (fun _ => nm_r (mb_tb v (by omega) T hT) ⟨by decide, nm_r (mb_Hw_e x3 v) ?_⟩)
    have K1 : mb_hk x3 T v = true → wL_lawOf_231 post mc ms J132 J141 (wL_lawOf_177 post mc ms J132 J141 x1 x2 x3 x6 x7 x8 x9 x10 x11 x12 x13 x14 x15 (nI T) x17 kc ks fn fw fi fo mi mo sz ns cu cs ex bv bt a1 a2 a3 a4 a5 a6 a7 a8 a9 a10 a11 a12 a13 a14 a15 a16 a17 k) x1 x2 x3 x6 x7 x8 x9 x10 x11 x12 x13 x14 x15 (nI T) x17 (nI (mb_sm (fun v => if T.testBit v = true then mb_Wt x2 v else 0) v)) (nI (mb_sm (fun v => if T.testBit v = true then 1 else 0) v)) (mb_bi (mb_fv i x3 T v)) (nI v) (nI (if T.testBit v = true then 1 else 0)) kc ks fn fw fi fo mi mo sz ns cu cs ex bv bt a1 a2 a3 a4 a5 a6 a7 a8 a9 a10 a11 a12 a13 a14 a15 a16 a17 := by
      intro q
      refine mb_l231 ?_
      rw [q, Bool.and_true] at ef
      rw [ef] at t
      exact t
    have K0 : mb_hk x3 T v = false → wL_lawOf_228 post mc ms J132 J141 (wL_lawOf_177 post mc ms J132 J141 x1 x2 x3 x6 x7 x8 x9 x10 x11 x12 x13 x14 x15 (nI T) x17 kc ks fn fw fi fo mi mo sz ns cu cs ex bv bt a1 a2 a3 a4 a5 a6 a7 a8 a9 a10 a11 a12 a13 a14 a15 a16 a17 k) x1 x2 x3 x6 x7 x8 x9 x10 x11 x12 x13 x14 x15 (nI T) x17 (nI (mb_sm (fun v => if T.testBit v = true then mb_Wt x2 v else 0) v)) (nI (mb_sm (fun v => if T.testBit v = true then 1 else 0) v)) (nI v) (nI (if T.testBit v = true then 1 else 0)) kc ks fn fw fi fo mi mo sz ns cu cs ex bv bt a1 a2 a3 a4 a5 a6 a7 a8 a9 a10 a11 a12 a13 a14 a15 a16 a17 := by
      intro q
      unfold wL_lawOf_228
      refine mb_l231 ?_
      rw [q, Bool.and_false] at ef
      rw [ef] at t
      exact t
    unfold mb_hk at K0 K1
    by_cases c : T.testBit v = true
    · rw [if_pos c] at K0 K1 ⊢
      rw [c] at K0 K1
      refine pk_eq (mb_Hw x3 v) 1 (fun e1 => br_f (by decide) ?_) (fun e1 => ?_)
      · exact pk_eq (mb_Hw x3 v) 2 (fun e2 => absurd e2 (by omega)) (fun e2 => K1 (by rw [e1]; rfl))
      · refine pk_eq (mb_Hw x3 v) 2 (fun e2 => br_t rfl (K0 (by rw [e2]; rfl))) (fun e2 => K1 (by rw [decide_eq_false e1, decide_eq_false e2]; rfl))
    · have c' : T.testBit v = false := by
        cases q : T.testBit v
        · rfl
        · exact absurd q c
      rw [if_neg c] at K0 K1 ⊢
      rw [c'] at K0 K1
      refine pk_eq (mb_Hw x3 v) 1 (fun e1 => br_t rfl (K0 (by rw [e1]; rfl))) (fun e1 => ?_)
      exact pk_eq (mb_Hw x3 v) 2 (fun e2 => br_f (by decide) (K1 (by rw [e2]; rfl))) (fun e2 => K1 (by rw [decide_eq_false e1, decide_eq_false e2]; rfl))
end
end
section
noncomputable def mb_I (x : Int32) (T : Nat) : Bool := @decide (mb_in x T) (Classical.propDecidable _)
noncomputable def mb_F (x y : Int32) (T : Nat) : Bool := mb_fv (mb_I x T) y T 5
theorem mb_I_iff {x : Int32} {T : Nat} : mb_I x T = true ↔ mb_in x T := by
  unfold mb_I
  exact @decide_eq_true_iff (mb_in x T) (Classical.propDecidable _)
theorem mb_sm_le {f : Nat → Nat} {c : Nat} (h : ∀ v, f v ≤ c) : ∀ n, mb_sm f n ≤ c * n
  | 0 => Nat.zero_le _
  | n + 1 => by
    have h1 := mb_sm_le h n
    have h2 := h n
    rw [mb_sm, Nat.mul_succ]
    omega
theorem mb_ws_le {W : Nat → Nat} {c : Nat} (h : ∀ v, W v ≤ c) (T : Nat) : mb_ws W T ≤ c * 5 := by
  refine mb_sm_le (fun v => ?_) 5
  by_cases e : T.testBit v = true
  · rw [if_pos e]; exact h v
  · rw [if_neg e]; exact Nat.zero_le _
section
variable {fn fw fi fo mi mo sz ns cu cs ex bv bt : Int32} {a1 a2 a3 a4 a5 a6 a7 a8 a9 a10 a11 a12 a13 a14 a15 a16 a17 : Nat → Int32}
variable {post : Int32 → St0 → Prop} {mc ms kc ks : Nat} {x1 x2 x3 : Int32} {b : Nat}
theorem mb_l141 {J132 : Int32 → Int32 → Int32 → Int32 → Int32 → Int32 → Int32 → Int32 → Prop} {i : Nat} (hi : i < 4) (hb : b ≤ 31)
    (H : ∀ y6 y7 y8 y9 y10 y11 y12, mb_LI (mb_F x1 x3) (mb_I x1) (mb_ws (mb_Wt x2)) (mb_ws (fun _ => 1)) b (32 - 8 * i) y6 y7 y8 y9 y10 y11 y12 → J132 y6 y7 y8 y9 y10 y11 y12 (nI i + (-1))) :
    ∀ (k : Nat) (x6 x7 x8 x9 x10 x11 x12 : Int32), k ≤ 8 → mb_LI (mb_F x1 x3) (mb_I x1) (mb_ws (mb_Wt x2)) (mb_ws (fun _ => 1)) b (32 - (8 * i + k)) x6 x7 x8 x9 x10 x11 x12 →
      wL_lawOf_141 post mc ms J132 x1 x2 x3 (nI b) (nI i) kc ks fn fw fi fo mi mo sz ns cu cs ex bv bt a1 a2 a3 a4 a5 a6 a7 a8 a9 a10 a11 a12 a13 a14 a15 a16 a17 (k + 1) x6 x7 x8 x9 x10 x11 x12 (nI k - 1) := by
  intro k
  induction k with
  | zero =>
    intro x6 x7 x8 x9 x10 x11 x12 _ h
    exact br_t (by decide) (nm_e (H _ _ _ _ _ _ _ h))
  | succ k ih =>
    intro x6 x7 x8 x9 x10 x11 x12 hk h
    have hT : 8 * i + k < 32 := by omega
    have eT : 31 - (31 - (8 * i + k)) = 8 * i + k := by omega
    have hw : ∀ T, T < 32 → mb_ws (mb_Wt x2) T ≤ 1000 := fun T _ => Nat.le_trans (mb_ws_le (mb_Wt_le x2) T) (by omega)
    have hz : ∀ T, T < 32 → mb_ws (fun _ => 1) T ≤ 5 := fun T _ => Nat.le_trans (mb_ws_le (c := 1) (fun _ => Nat.le_refl _) T) (by omega)
    have key : ∀ r : Int32, r = mb_bi (mb_I x1 (8 * i + k)) → ∃ fu, wL_lawOf_177 post mc ms J132 (wL_lawOf_141 post mc ms J132 x1 x2 x3 (nI b) (nI i) kc ks fn fw fi fo mi mo sz ns cu cs ex bv bt a1 a2 a3 a4 a5 a6 a7 a8 a9 a10 a11 a12 a13 a14 a15 a16 a17 (k + 1)) x1 x2 x3 x6 x7 x8 x9 x10 x11 x12 (nI b) (nI i) (nI k) (nI (8 * i + k)) r kc ks fn fw fi fo mi mo sz ns cu cs ex bv bt a1 a2 a3 a4 a5 a6 a7 a8 a9 a10 a11 a12 a13 a14 a15 a16 a17 fu 0 0 r 0 := by
      intro r hr
      subst hr
      refine mb_l177 hT (fun k' => ?_)
      rw [show 32 - (8 * i + (k + 1)) = 31 - (8 * i + k) by omega] at h
      have t := mb_l177x (k := k') (post := post) (mc := mc) (ms := ms) (kc := kc) (ks := ks) (x1 := x1) (x2 := x2) (x3 := x3) (J132 := J132) (x14 := nI i) (x15 := nI k) (J141 := wL_lawOf_141 post mc ms J132 x1 x2 x3 (nI b) (nI i) kc ks fn fw fi fo mi mo sz ns cu cs ex bv bt a1 a2 a3 a4 a5 a6 a7 a8 a9 a10 a11 a12 a13 a14 a15 a16 a17 (k + 1)) (fn := fn) (fw := fw) (fi := fi) (fo := fo) (mi := mi) (mo := mo) (sz := sz) (ns := ns) (cu := cu) (cs := cs) (ex := ex) (bv := bv) (bt := bt) (a1 := a1) (a2 := a2) (a3 := a3) (a4 := a4) (a5 := a5) (a6 := a6) (a7 := a7) (a8 := a8) (a9 := a9) (a10 := a10) (a11 := a11) (a12 := a12) (a13 := a13) (a14 := a14) (a15 := a15) (a16 := a16) (a17 := a17)
        (n := 31 - (8 * i + k)) (by omega) hz hw hb h rfl rfl (fun y6 y7 y8 y9 y10 y11 y12 g => by
          rw [show 31 - (8 * i + k) + 1 = 32 - (8 * i + k) by omega] at g
          have q := ih y6 y7 y8 y9 y10 y11 y12 (by omega) g
          rw [Int32.sub_eq_add_neg] at q
          exact q)
      rw [eT] at t
      exact t
    rw [nI_pred]
    refine br_f (nI_pos (by omega)) (nm_r (e' := nI (8 * i + k)) ?_ (mb_indep hT (fun hin => key 1 ?_) (fun hin => key 0 ?_)))
    · show nI 8 * nI i + nI k = nI (8 * i + k)
      rw [pk_mul, nI_add]
    · rw [mb_I_iff.mpr hin]; rfl
    · have e : mb_I x1 (8 * i + k) = false := by
        cases q : mb_I x1 (8 * i + k)
        · rfl
        · exact absurd (mb_I_iff.mp q) hin
      rw [e]; rfl
theorem mb_l132 (hb : b ≤ 31)
    (H : ∀ y6 y7 y8 y9 y10 y11 y12, mb_LI (mb_F x1 x3) (mb_I x1) (mb_ws (mb_Wt x2)) (mb_ws (fun _ => 1)) b 32 y6 y7 y8 y9 y10 y11 y12 → wL_lawOf_132 post mc ms x1 x2 x3 (nI b) kc ks fn fw fi fo mi mo sz ns cu cs ex bv bt a1 a2 a3 a4 a5 a6 a7 a8 a9 a10 a11 a12 a13 a14 a15 a16 a17 (0 + 1) y6 y7 y8 y9 y10 y11 y12 (nI 0 - 1)) :
    ∀ (k : Nat) (x6 x7 x8 x9 x10 x11 x12 : Int32), k ≤ 4 → mb_LI (mb_F x1 x3) (mb_I x1) (mb_ws (mb_Wt x2)) (mb_ws (fun _ => 1)) b (32 - 8 * k) x6 x7 x8 x9 x10 x11 x12 →
      wL_lawOf_132 post mc ms x1 x2 x3 (nI b) kc ks fn fw fi fo mi mo sz ns cu cs ex bv bt a1 a2 a3 a4 a5 a6 a7 a8 a9 a10 a11 a12 a13 a14 a15 a16 a17 (k + 1) x6 x7 x8 x9 x10 x11 x12 (nI k - 1) := by
  intro k
  induction k with
  | zero =>
    intro x6 x7 x8 x9 x10 x11 x12 _ h
    exact H _ _ _ _ _ _ _ h
  | succ k ih =>
    intro x6 x7 x8 x9 x10 x11 x12 hk h
    rw [nI_pred]
    refine br_f (nI_pos (by omega)) ⟨8 + 1, ?_⟩
    have t := mb_l141 (post := post) (mc := mc) (ms := ms) (kc := kc) (ks := ks) (x1 := x1) (x2 := x2) (x3 := x3) (J132 := wL_lawOf_132 post mc ms x1 x2 x3 (nI b) kc ks fn fw fi fo mi mo sz ns cu cs ex bv bt a1 a2 a3 a4 a5 a6 a7 a8 a9 a10 a11 a12 a13 a14 a15 a16 a17 (k + 1)) (fn := fn) (fw := fw) (fi := fi) (fo := fo) (mi := mi) (mo := mo) (sz := sz) (ns := ns) (cu := cu) (cs := cs) (ex := ex) (bv := bv) (bt := bt) (a1 := a1) (a2 := a2) (a3 := a3) (a4 := a4) (a5 := a5) (a6 := a6) (a7 := a7) (a8 := a8) (a9 := a9) (a10 := a10) (a11 := a11) (a12 := a12) (a13 := a13) (a14 := a14) (a15 := a15) (a16 := a16) (a17 := a17) (i := k) (by omega) hb (fun y6 y7 y8 y9 y10 y11 y12 g => by
      have q := ih y6 y7 y8 y9 y10 y11 y12 (by omega) g
      rw [Int32.sub_eq_add_neg] at q
      exact q) 8 x6 x7 x8 x9 x10 x11 x12 (by omega) (by rw [show 32 - (8 * k + 8) = 32 - 8 * (k + 1) by omega]; exact h)
    rw [show nI 8 - 1 = (7 : Int32) from by decide] at t
    exact t
end
end
section
/-- the edge a, c is in, once the law has come to v, u -/
def mb_dn (x : Int32) (v u a c : Nat) : Bool := if a < c then (mb_ed x a c && decide (c < v ∨ (c = v ∧ a < u))) else if c < a then (mb_ed x c a && decide (a < v ∨ (a = v ∧ c < u))) else false
theorem mb_dn_f (x : Int32) {v u a c : Nat} (h1 : ¬ (a = v ∧ c = u)) (h2 : ¬ (a = u ∧ c = v)) : mb_dn x v (u + 1) a c = mb_dn x v u a c := by
  unfold mb_dn
  by_cases q : a < c
  · rw [if_pos q, if_pos q]
    congr 1
    exact decide_eq_decide.mpr (by omega)
  · rw [if_neg q, if_neg q]
    by_cases q' : c < a
    · rw [if_pos q', if_pos q']
      congr 1
      exact decide_eq_decide.mpr (by omega)
    · rw [if_neg q', if_neg q']
theorem mb_dn_1 (x : Int32) {v u : Nat} (h : u < v) : mb_dn x v (u + 1) v u = mb_ed x u v ∧ mb_dn x v (u + 1) u v = mb_ed x u v ∧ mb_dn x v u v u = false ∧ mb_dn x v u u v = false := by
  unfold mb_dn
  refine ⟨?_, ?_, ?_, ?_⟩
  · rw [if_neg (by omega), if_pos h, decide_eq_true (by omega), Bool.and_true]
  · rw [if_pos h, decide_eq_true (by omega), Bool.and_true]
  · rw [if_neg (by omega), if_pos h, decide_eq_false (by omega), Bool.and_false]
  · rw [if_pos h, decide_eq_false (by omega), Bool.and_false]
theorem mb_dn_v (x : Int32) {v a c : Nat} : mb_dn x (v + 1) 0 a c = mb_dn x v v a c := by
  unfold mb_dn
  by_cases q : a < c
  · rw [if_pos q, if_pos q]
    congr 1
    exact decide_eq_decide.mpr (by omega)
  · rw [if_neg q, if_neg q]
    by_cases q' : c < a
    · rw [if_pos q', if_pos q']
      congr 1
      exact decide_eq_decide.mpr (by omega)
    · rw [if_neg q', if_neg q']
theorem mb_dn_0 (x : Int32) (a c : Nat) : mb_dn x 0 0 a c = false := by
  unfold mb_dn
  by_cases q : a < c
  · rw [if_pos q, decide_eq_false (by omega), Bool.and_false]
  · rw [if_neg q]
    by_cases q' : c < a
    · rw [if_pos q', decide_eq_false (by omega), Bool.and_false]
    · rw [if_neg q']
theorem mb_dn_5 (x : Int32) {u v : Nat} (h : u < v) (hv : v < 5) : mb_dn x 5 0 u v = mb_ed x u v ∧ mb_dn x 5 0 v u = mb_ed x u v := by
  unfold mb_dn
  refine ⟨?_, ?_⟩
  · rw [if_pos h, decide_eq_true (by omega), Bool.and_true]
  · rw [if_neg (by omega), if_pos h, decide_eq_true (by omega), Bool.and_true]
def mb_Js (x : Int32) (v u : Nat) (J : Nat → Nat) : Prop := ∀ a, a < 5 → J a < 32 ∧ ∀ c, c < 5 → (J a).testBit c = mb_dn x v u a c
def mb_PJ (x : Int32) (v u : Nat) (a1 : Nat → Int32) : Prop := ∃ J : Nat → Nat, (∀ a, a < 5 → a1 a = nI (J a)) ∧ mb_Js x v u J
theorem mb_Js_0 {x : Int32} {v u : Nat} {J : Nat → Nat} (h : mb_Js x v u J) (hu : u < v) (e : mb_ed x u v = false) : mb_Js x v (u + 1) J := by
  obtain ⟨d1, d2, d3, d4⟩ := mb_dn_1 x hu
  intro a ha
  refine ⟨(h a ha).1, fun c hc => ?_⟩
  rw [(h a ha).2 c hc]
  by_cases q : a = v ∧ c = u
  · rw [q.1, q.2, d1, d3, e]
  · by_cases q' : a = u ∧ c = v
    · rw [q'.1, q'.2, d2, d4, e]
    · rw [mb_dn_f x q q']
def mb_J1 (J : Nat → Nat) (v u a : Nat) : Nat := if a = v then J a ||| 2 ^ u else if a = u then J a ||| 2 ^ v else J a
theorem mb_Js_1 {x : Int32} {v u : Nat} {J : Nat → Nat} (h : mb_Js x v u J) (hu : u < v) (hv : v < 5) (e : mb_ed x u v = true) : mb_Js x v (u + 1) (mb_J1 J v u) := by
  obtain ⟨d1, d2, d3, d4⟩ := mb_dn_1 x hu
  intro a ha
  have ja := (h a ha).1
  unfold mb_J1
  by_cases q : a = v
  · rw [if_pos q]
    refine ⟨Nat.or_lt_two_pow (n := 5) ja (mb_p5 u (by omega)), fun c hc => ?_⟩
    rw [Nat.testBit_or, Nat.testBit_two_pow, (h a ha).2 c hc]
    by_cases qc : u = c
    · rw [decide_eq_true qc, Bool.or_true, q, ← qc, d1, e]
    · rw [decide_eq_false qc, Bool.or_false, mb_dn_f x (by omega) (by omega)]
  · rw [if_neg q]
    by_cases q' : a = u
    · rw [if_pos q']
      refine ⟨Nat.or_lt_two_pow (n := 5) ja (mb_p5 v hv), fun c hc => ?_⟩
      rw [Nat.testBit_or, Nat.testBit_two_pow, (h a ha).2 c hc]
      by_cases qc : v = c
      · rw [decide_eq_true qc, Bool.or_true, q', ← qc, d2, e]
      · rw [decide_eq_false qc, Bool.or_false, mb_dn_f x (by omega) (by omega)]
    · rw [if_neg q']
      refine ⟨ja, fun c hc => ?_⟩
      rw [(h a ha).2 c hc, mb_dn_f x (by omega) (by omega)]
def mb_PF (x : Int32) (h v : Nat) (f : Int32) : Prop := ∃ K : Nat, f = nI K ∧ K < 32 ∧ ∀ c, c < 5 → K.testBit c = decide (c < v ∧ mb_Hw x c = h)
theorem mb_dr_v {v S : Nat} (hv : v < 5) : (mb_dr v S).testBit v = false := by
  have q : ∀ u, u < 5 → Nat.testBit 31 u = true := by decide
  unfold mb_dr
  rw [Nat.testBit_and, Nat.testBit_xor, q v hv, Nat.testBit_two_pow, decide_eq_true rfl]
  simp
theorem mb_PF_s {x : Int32} {h v K : Nat} (hv : v < 5) (hK : K < 32) (g : ∀ c, c < 5 → K.testBit c = decide (c < v ∧ mb_Hw x c = h)) : mb_PF x h (v + 1) (nI (if mb_Hw x v = h then K ||| 2 ^ v else mb_dr v K)) := by
  by_cases e : mb_Hw x v = h
  · rw [if_pos e]
    refine ⟨K ||| 2 ^ v, rfl, Nat.or_lt_two_pow (n := 5) hK (mb_p5 v hv), fun c hc => ?_⟩
    rw [Nat.testBit_or, Nat.testBit_two_pow, g c hc]
    by_cases q : v = c
    · rw [decide_eq_true q, Bool.or_true, decide_eq_true ⟨by omega, by rw [← q]; exact e⟩]
    · rw [decide_eq_false q, Bool.or_false]
      exact decide_eq_decide.mpr ⟨fun z => ⟨by omega, z.2⟩, fun z => ⟨by omega, z.2⟩⟩
  · rw [if_neg e]
    refine ⟨mb_dr v K, rfl, mb_dr_lt hK, fun c hc => ?_⟩
    by_cases q : c = v
    · rw [q, mb_dr_v hv, decide_eq_false (fun z => e z.2)]
    · rw [mb_dr_b hc q, g c hc]
      exact decide_eq_decide.mpr ⟨fun z => ⟨by omega, z.2⟩, fun z => ⟨by omega, z.2⟩⟩
section
variable {fn fw fi fo mi mo sz ns cu cs ex bv bt : Int32} {a1 a2 a3 a4 a5 a6 a7 a8 a9 a10 a11 a12 a13 a14 a15 a16 a17 : Nat → Int32}
theorem mb_init204 {post : St2 → Prop} {mc ms kc ks : Nat} (H : ∀ b2, post (fn, fw, fi, fo, mi, mo, sz, ns, cu, cs, ex, bv, bt, a1, b2, a3, a4, a5, a6, a7, a8, a9, a10, a11, a12, a13, a14, a15, a16, a17)) : ∃ fu, wX_init_204 post mc ms kc ks fn fw fi fo mi mo sz ns cu cs ex bv bt fu 0 a1 a2 a3 a4 a5 a6 a7 a8 a9 a10 a11 a12 a13 a14 a15 a16 a17 := by
  refine pk_loop (fun k i (s : Nat → Int32) => wX_init_204 post mc ms kc ks fn fw fi fo mi mo sz ns cu cs ex bv bt k (nI i) a1 s a3 a4 a5 a6 a7 a8 a9 a10 a11 a12 a13 a14 a15 a16 a17) (fun _ _ => True) 12 0 a2 (by omega) trivial ?_ ?_
  · intro k s _
    exact pk_le 12 12 (fun _ => H s) (fun z => absurd z (by omega))
  · intro k i s hi _ hc
    exact pk_le 12 i (fun z => absurd z (by omega)) (fun _ => ⟨pk_in i 12 hi, nm_e (nm_r (nI_1 i) (hc _ trivial))⟩)
theorem mb_init184 {post : St2 → Prop} {mc ms kc ks j : Nat} (hj : 1 ≤ j) (hj2 : j < 2 ^ 31) (H : ∀ w b2, 1 ≤ w → w ≤ 16 → post (fn, nI w, fi, fo, mi, mo, sz, ns, cu, cs, ex, bv, bt, a1, b2, a3, a4, a5, a6, a7, a8, a9, a10, a11, a12, a13, a14, a15, a16, a17)) : wX_init_184 post mc ms (nI j) kc ks fn fw fi fo mi mo sz ns cu cs ex bv bt a1 a2 a3 a4 a5 a6 a7 a8 a9 a10 a11 a12 a13 a14 a15 a16 a17 := by
  unfold wX_init_184
  exact pk_le j 16 (fun z => mb_init204 (fun b2 => H j b2 hj z)) (fun z => mb_init204 (fun b2 => H 16 b2 (by omega) (by omega)))
theorem mb_init {post : St2 → Prop} {p1 : Int32} (H : ∀ w b2, 1 ≤ w → w ≤ 16 → post (5, nI w, 0, 0, 0, 0, 0, 0, 0, 0, 0, 0, 0, fun _ => 0, b2, fun _ => 0, fun _ => 0, fun _ => 0, fun _ => 0, fun _ => 0, fun _ => 0, fun _ => 0, fun _ => 0, fun _ => 0, fun _ => 0, fun _ => 0, fun _ => 0, fun _ => 0, fun _ => 0, fun _ => 0)) : wpX_init post 17 1649 (0, 0, 0, 0, 0, 0, 0, 0, 0, 0, 0, 0, 0) 5 p1 := by
  unfold wpX_init
  refine ⟨by decide, by decide, by decide, by decide, by decide, by decide, by decide, by decide, by decide, by decide, by decide, by decide, by decide, by decide, by decide, by decide, by decide, by decide, by decide, by decide, by decide, by decide, by decide, by decide, by decide, by decide, by decide, by decide, by decide, by decide, by decide, by decide, by decide, by decide, ?_⟩
  refine br_t (by decide) (br_t (by decide) ?_)
  refine br_c (fun h => ?_) (fun h => mb_init184 (j := 1) (by omega) (by omega) H)
  have h0 : ¬ p1 < 0 := fun z => by
    have h' := Int32.le_iff_toInt_le.mp h
    have z' := Int32.lt_iff_toInt_lt.mp z
    rw [show (1 : Int32).toInt = 1 from by decide] at h'
    rw [show (0 : Int32).toInt = 0 from by decide] at z'
    omega
  obtain ⟨j, hj, e⟩ := nI_of h0
  subst e
  refine mb_init184 (j := j) ?_ hj H
  rcases Nat.eq_zero_or_pos j with z | z
  · subst z
    exact absurd h (by decide)
  · exact z
theorem mb_isV {post : Int32 → Prop} {v : Nat} (en : fn = 5) (hv : v < 5) (H : post 1) : wpX_isVertex post (fn, fw, fi, fo, mi, mo, sz, ns, cu, cs, ex, bv, bt, a1, a2, a3, a4, a5, a6, a7, a8, a9, a10, a11, a12, a13, a14, a15, a16, a17) (nI v) := by
  unfold wpX_isVertex
  exact br_f (nI_pos (by omega)) (pk_le 5 v (fun z => absurd z (by omega)) (fun _ => H) en)
theorem mb_weigh {post : Int32 → St2 → Prop} {v y : Nat} (en : fn = 5) (hv : v < 5) (hy : y ≤ 15) (H : ∀ r, post r (fn, fw, fi, fo, mi, mo, sz, ns, cu, cs, ex, bv, bt, a1, upd a2 v (nI y), a3, a4, a5, a6, a7, a8, a9, a10, a11, a12, a13, a14, a15, a16, a17)) : wpX_weigh post (fn, fw, fi, fo, mi, mo, sz, ns, cu, cs, ex, bv, bt, a1, a2, a3, a4, a5, a6, a7, a8, a9, a10, a11, a12, a13, a14, a15, a16, a17) (nI v) (nI y) := by
  unfold wpX_weigh
  refine mb_isV en hv (br_f (by decide) (br_f (nI_pos (by omega)) (pk_le y 30 (fun _ => ⟨pk_in v 12 (by omega), nm_e ⟨pk_in v 12 (by omega), ?_⟩⟩) (fun z => absurd z (by omega)))))
  rw [nI_clamp (show v < 2 ^ 31 by omega)]
  exact nm_e (H _)
theorem mb_force {post : Int32 → St2 → Prop} {v h K L : Nat} (en : fn = 5) (hv : v < 5) (hh : h < 3) (ei : fi = nI K) (hK : K < 32) (eo : fo = nI L) (hL : L < 32)
    (H : ∀ r, post r (fn, fw, nI (if h = 1 then K ||| 2 ^ v else mb_dr v K), nI (if h = 2 then L ||| 2 ^ v else mb_dr v L), mi, mo, sz, ns, cu, cs, ex, bv, bt, a1, a2, a3, a4, a5, a6, a7, a8, a9, a10, a11, a12, a13, a14, a15, a16, a17)) : wpX_force post (fn, fw, fi, fo, mi, mo, sz, ns, cu, cs, ex, bv, bt, a1, a2, a3, a4, a5, a6, a7, a8, a9, a10, a11, a12, a13, a14, a15, a16, a17) (nI v) (nI h) := by
  subst ei eo
  have p5 := mb_p5 v hv
  have K82 : ∀ (z g : Int32), g = nI (if h = 1 then K ||| 2 ^ v else mb_dr v K) → wX_force_82 post (nI h) (nI (2 ^ v)) z g fn fw (nI K) (nI L) mi mo sz ns cu cs ex bv bt a1 a2 a3 a4 a5 a6 a7 a8 a9 a10 a11 a12 a13 a14 a15 a16 a17 := by
    intro z g eg
    subst eg
    unfold wX_force_82
    refine pk_eq h 2 (fun e => nm_r (mb_tor L hL _ p5) ?_) (fun e => nm_r (mb_t3 hv hL) ?_)
    · have t := H z
      rw [if_pos e] at t
      exact t
    · have t := H z
      rw [if_neg e] at t
      exact t
  have K57 : ∀ z : Int32, wX_force_57 post (nI h) (nI (2 ^ v)) z fn fw (nI K) (nI L) mi mo sz ns cu cs ex bv bt a1 a2 a3 a4 a5 a6 a7 a8 a9 a10 a11 a12 a13 a14 a15 a16 a17 := by
    intro z
    unfold wX_force_57
    refine pk_eq h 1 (fun e => K82 z _ ?_) (fun e => K82 z _ ?_)
    · rw [if_pos e]; exact mb_tor K hK _ p5
    · rw [if_neg e]; exact mb_t3 hv hK
  have K40 : ∀ z : Int32, wX_force_40 post (nI h) (nI (2 ^ v)) z fn fw (nI K) (nI L) mi mo sz ns cu cs ex bv bt a1 a2 a3 a4 a5 a6 a7 a8 a9 a10 a11 a12 a13 a14 a15 a16 a17 := by
    intro z
    unfold wX_force_40
    exact br_c (fun _ => K57 _) (fun _ => K57 _)
  unfold wpX_force
  exact mb_isV en hv (br_f (by decide) (br_f (nI_pos (by omega)) (pk_le h 2 (fun _ => nm_r (mb_t1 v (by omega)) (br_c (fun _ => K40 _) (fun _ => K40 _))) (fun z => absurd z (by omega)))))
theorem mb_edge {post : Int32 → St2 → Prop} {u v : Nat} {J : Nat → Nat} (en : fn = 5) (hu : u < v) (hv : v < 5) (hJ : ∀ a, a < 5 → a1 a = nI (J a) ∧ J a < 32)
    (H : ∀ r b1, (∀ a, a < 5 → b1 a = nI (mb_J1 J v u a)) → post r (fn, fw, fi, fo, mi, mo, sz, ns, cu, cs, ex, bv, bt, b1, a2, a3, a4, a5, a6, a7, a8, a9, a10, a11, a12, a13, a14, a15, a16, a17)) : wpX_edge post (fn, fw, fi, fo, mi, mo, sz, ns, cu, cs, ex, bv, bt, a1, a2, a3, a4, a5, a6, a7, a8, a9, a10, a11, a12, a13, a14, a15, a16, a17) (nI v) (nI u) 1 := by
  have hu5 : u < 5 := by omega
  have pv : vp_in (nI v) 12 := pk_in v 12 (by omega)
  have pu : vp_in (nI u) 12 := pk_in u 12 (by omega)
  have cv : (nI v).toNatClampNeg = v := nI_clamp (by omega)
  have cu' : (nI u).toNatClampNeg = u := nI_clamp (by omega)
  unfold wpX_edge
  refine mb_isV en hv (br_f (by decide) (mb_isV en hu5 (br_f (by decide) (pk_eq v u (fun z => absurd z (by omega)) (fun _ => ⟨pv, nm_e (br_f (by decide) ?_)⟩)))))
  unfold wX_edge_50 wpX_setEdge
  refine br_f (by decide) ⟨pv, ?_⟩
  unfold wX_setEdge_34
  rw [cv, cu', mb_t1 v (by omega), mb_t1 u (by omega), (hJ v hv).1, mb_tor _ (hJ v hv).2 _ (mb_p5 u hu5)]
  refine ⟨pv, nm_e (br_f (by decide) ⟨pu, pu, nm_e ?_⟩)⟩
  refine H _ _ (fun a ha => ?_)
  unfold mb_J1
  by_cases q : a = u
  · subst q
    rw [pk_us, pk_un (by omega), (hJ a ha).1, mb_tor _ (hJ a ha).2 _ (mb_p5 v hv), if_neg (by omega), if_pos rfl]
  · rw [pk_un q]
    by_cases q' : a = v
    · subst q'
      rw [pk_us, if_pos rfl]
    · rw [pk_un q', if_neg q', if_neg q]
      exact (hJ a ha).1
variable {post : Int32 → St0 → Prop} {mc ms kc ks : Nat} {x1 x2 x3 x4 : Int32}
theorem mb_l59 {J14 : Int32 → Int32 → Int32 → Int32 → Int32 → Int32 → Int32 → Int32 → Int32 → Int32 → Int32 → Int32 → Int32 → Int32 → (Nat → Int32) → (Nat → Int32) → (Nat → Int32) → (Nat → Int32) → (Nat → Int32) → (Nat → Int32) → (Nat → Int32) → (Nat → Int32) → (Nat → Int32) → (Nat → Int32) → (Nat → Int32) → (Nat → Int32) → (Nat → Int32) → (Nat → Int32) → (Nat → Int32) → (Nat → Int32) → (Nat → Int32) → Prop} {v : Nat} (en : fn = 5) (hv : v < 5) (h : mb_PJ x1 v 0 a1) (H : ∀ b1, mb_PJ x1 (v + 1) 0 b1 → J14 (nI (v + 1)) fn fw fi fo mi mo sz ns cu cs ex bv bt b1 a2 a3 a4 a5 a6 a7 a8 a9 a10 a11 a12 a13 a14 a15 a16 a17) : ∃ fu, wL_lawOf_59 post mc ms J14 x1 x2 x3 x4 (nI v) kc ks fu 0 fn fw fi fo mi mo sz ns cu cs ex bv bt a1 a2 a3 a4 a5 a6 a7 a8 a9 a10 a11 a12 a13 a14 a15 a16 a17 := by
  refine pk_loop (fun k i (s : Nat → Int32) => wL_lawOf_59 post mc ms J14 x1 x2 x3 x4 (nI v) kc ks k (nI i) fn fw fi fo mi mo sz ns cu cs ex bv bt s a2 a3 a4 a5 a6 a7 a8 a9 a10 a11 a12 a13 a14 a15 a16 a17) (fun i s => mb_PJ x1 v i s) v 0 a1 (by omega) h ?_ ?_
  · intro k s hI
    obtain ⟨J, h1, h2⟩ := hI
    refine pk_le v v (fun _ => nm_r (nI_1 v) (H s ⟨J, h1, fun a ha => ⟨(h2 a ha).1, fun c hc => ?_⟩⟩)) (fun z => absurd z (by omega))
    rw [mb_dn_v]
    exact (h2 a ha).2 c hc
  · intro k i s hi hI hc
    obtain ⟨J, h1, h2⟩ := hI
    refine pk_le v i (fun z => absurd z (by omega)) (fun _ => mb_joined (fun e => br_f (by decide) ?_) (fun e => br_t rfl (nm_r (nI_1 i) (hc s ⟨J, h1, mb_Js_0 h2 hi e⟩))))
    exact mb_edge (J := J) en hi hv (fun a ha => ⟨h1 a ha, (h2 a ha).1⟩) (fun r b1 g => nm_r (nI_1 i) (hc b1 ⟨mb_J1 J v i, g, mb_Js_1 h2 hi hv e⟩))
theorem mb_l14 (en : fn = 5) (H : ∀ (fi fo : Int32) (a1 a2 : Nat → Int32), mb_PJ x1 5 0 a1 → (∀ a, a < 5 → a2 a = nI (mb_Wt x2 a)) → mb_PF x3 1 5 fi → mb_PF x3 2 5 fo → ∃ fu, wL_lawOf_132 post mc ms x1 x2 x3 (x4 &&& 31) kc ks fn fw fi fo mi mo sz ns cu cs ex bv bt a1 a2 a3 a4 a5 a6 a7 a8 a9 a10 a11 a12 a13 a14 a15 a16 a17 fu (-1) (-1) 0 0 0 31 0 3) :
    ∀ (d v : Nat) (fi fo : Int32) (a1 a2 : Nat → Int32), v + d = 5 → mb_PJ x1 v 0 a1 → (∀ a, a < v → a2 a = nI (mb_Wt x2 a)) → mb_PF x3 1 v fi → mb_PF x3 2 v fo → wL_lawOf_14 post mc ms x1 x2 x3 x4 kc ks (d + 1) (nI v) fn fw fi fo mi mo sz ns cu cs ex bv bt a1 a2 a3 a4 a5 a6 a7 a8 a9 a10 a11 a12 a13 a14 a15 a16 a17 := by
  intro d
  induction d with
  | zero =>
    intro v fi fo a1 a2 hd h1 h2 h3 h4
    have e5 : v = 5 := by omega
    subst e5
    exact pk_le 5 5 (fun _ => nm_e (H fi fo a1 a2 h1 h2 h3 h4)) (fun z => absurd z (by omega))
  | succ d ih =>
    intro v fi fo a1 a2 hd h1 h2 h3 h4
    have hv : v < 5 := by omega
    obtain ⟨K, k1, k2, k3⟩ := h3
    obtain ⟨L, l1, l2, l3⟩ := h4
    refine pk_le 5 v (fun z => absurd z (by omega)) (fun _ => ?_)
    rw [mb_Wt_e, mb_Hw_e]
    refine mb_weigh en hv (mb_Wt_le x2 v) (fun r => ⟨by decide, mb_force en hv (mb_Hw_lt x3 v) k1 k2 l1 l2 (fun r' => mb_l59 en hv h1 (fun b1 g => ?_))⟩)
    refine ih (v + 1) _ _ b1 _ (by omega) g (fun a ha => ?_) (mb_PF_s hv k2 k3) (mb_PF_s hv l2 l3)
    by_cases q : a = v
    · rw [q, pk_us]
    · rw [pk_un q]
      exact h2 a (by omega)
end
end
section
theorem mb_fv_iff {i : Bool} {x : Int32} {T : Nat} : ∀ n, mb_fv i x T n = true ↔ i = true ∧ ∀ v, v < n → mb_hk x T v = true
  | 0 => ⟨fun h => ⟨h, fun v hv => absurd hv (by omega)⟩, fun h => h.1⟩
  | n + 1 => by
    rw [mb_fv, Bool.and_eq_true, mb_fv_iff n]
    constructor
    · rintro ⟨⟨h1, h2⟩, h3⟩
      refine ⟨h1, fun v hv => ?_⟩
      by_cases e : v = n
      · rw [e]; exact h3
      · exact h2 v (by omega)
    · rintro ⟨h1, h2⟩
      exact ⟨⟨h1, fun v hv => h2 v (by omega)⟩, h2 n (by omega)⟩
theorem mb_hk_iff {x : Int32} {T v : Nat} : mb_hk x T v = true ↔ (mb_Hw x v = 1 → T.testBit v = true) ∧ (mb_Hw x v = 2 → T.testBit v = false) := by
  unfold mb_hk
  cases c : T.testBit v <;> by_cases h1 : mb_Hw x v = 1 <;> by_cases h2 : mb_Hw x v = 2 <;> simp [h1, h2]
theorem mb_31 : ∀ v, v < 5 → Nat.testBit 31 v = true := by decide
section
variable {x1 x3 : Int32} {J G : Nat → Nat} {FI FO T : Nat}
theorem mb_okI (hJ : mb_Js x1 5 0 J) : mb_ok (J, G, 0, 0) 5 31 T = mb_I x1 T := by
  rw [Bool.eq_iff_iff, mb_I_iff, mb_ok_iff _ 5 31 T (by omega)]
  constructor
  · rintro ⟨_, h, _⟩ v hv u hu tu tv
    have t := h u v (by omega) hu hv tu tv
    have q := (hJ u (by omega)).2 v hv
    rw [(mb_dn_5 x1 hu hv).1] at q
    rw [← q]
    exact t
  · intro h
    refine ⟨fun v _ hv _ => mb_31 v hv, fun u v _ hu hv tu tv => ?_, fun v _ hv => ⟨fun _ => Nat.zero_testBit v, fun _ => Nat.zero_testBit v⟩⟩
    show (J u).testBit v = false
    rw [(hJ u (by omega)).2 v hv, (mb_dn_5 x1 hu hv).1]
    exact h v hv u hu tu tv
theorem mb_okF (hJ : mb_Js x1 5 0 J) (hI : ∀ c, c < 5 → FI.testBit c = decide (c < 5 ∧ mb_Hw x3 c = 1)) (hO : ∀ c, c < 5 → FO.testBit c = decide (c < 5 ∧ mb_Hw x3 c = 2)) : mb_ok (J, G, FI, FO) 5 31 T = mb_F x1 x3 T := by
  have base := mb_okI (G := G) (T := T) hJ
  rw [Bool.eq_iff_iff, mb_ok_iff _ 5 31 T (by omega)] at base
  unfold mb_F
  rw [Bool.eq_iff_iff, mb_fv_iff, ← base, mb_ok_iff _ 5 31 T (by omega)]
  constructor
  · rintro ⟨h1, h2, h3⟩
    refine ⟨⟨h1, h2, fun v _ hv => ⟨fun _ => Nat.zero_testBit v, fun _ => Nat.zero_testBit v⟩⟩, fun v hv => mb_hk_iff.mpr ⟨fun e => ?_, fun e => ?_⟩⟩
    · cases c : T.testBit v
      · have t := (h3 v (by omega) hv).2 c
        have t' : FI.testBit v = false := t
        rw [hI v hv, decide_eq_true ⟨hv, e⟩] at t'
        exact absurd t' (by decide)
      · rfl
    · cases c : T.testBit v
      · rfl
      · have t := (h3 v (by omega) hv).1 c
        have t' : FO.testBit v = false := t
        rw [hO v hv, decide_eq_true ⟨hv, e⟩] at t'
        exact absurd t' (by decide)
  · rintro ⟨⟨h1, h2, _⟩, h3⟩
    refine ⟨h1, h2, fun v _ hv => ⟨fun c => ?_, fun c => ?_⟩⟩
    · show FO.testBit v = false
      rw [hO v hv]
      refine decide_eq_false (fun z => ?_)
      have t := (mb_hk_iff.mp (h3 v hv)).2 z.2
      rw [c] at t
      exact absurd t (by decide)
    · show FI.testBit v = false
      rw [hI v hv]
      refine decide_eq_false (fun z => ?_)
      have t := (mb_hk_iff.mp (h3 v hv)).1 z.2
      rw [c] at t
      exact absurd t (by decide)
end
/-- what a search answers, said of sets: none fits, or c is the best -/
def mb_RS (F : Nat → Bool) (W : Nat → Nat) (bv bt : Int32) : Prop :=
  (bv = -1 ∧ ∀ T, T < 32 → F T = false) ∨ ∃ c, c < 32 ∧ F c = true ∧ (∃ x : Nat, bv = nI x ∧ x < 1000000) ∧ bt = nI c ∧ ∀ T, T < 32 → F T = true → mb_ws W T < mb_ws W c ∨ (mb_ws W T = mb_ws W c ∧ T ≤ c)
theorem mb_RS_of {J W : Nat → Nat} {FI FO : Nat} {F : Nat → Bool} {bv bt : Int32} (hP : mb_Pok (mb_PG J W FI FO)) (hF : ∀ T, mb_ok (mb_PG J W FI FO) 5 31 T = F T) (h : mb_SR (mb_PG J W FI FO) bv bt) : mb_RS F W bv bt := by
  rcases h with ⟨h1, h2⟩ | ⟨p, h1, h2, h3, h4⟩
  · refine Or.inl ⟨h1, fun T hT => ?_⟩
    cases c : F T
    · rfl
    · exact absurd ((mb_C_mem _ _).mpr ⟨T, hT, by rw [hF]; exact c, rfl⟩) (h2 _)
  · have hb := mb_C_le hP 5 31 p (by omega) h1
    obtain ⟨c, hc, ok, e⟩ := (mb_C_mem _ _).mp h1
    rw [hF] at ok
    have e2 : p.2 = 4096 * mb_ws W c + c := by rw [e]; exact mb_wsG W hc
    have e1 : p.1 = c := by rw [e]
    refine Or.inr ⟨c, hc, ok, ⟨p.2, h2, by omega⟩, by rw [h3, e1], fun T hT hFT => ?_⟩
    have q := h4 _ ((mb_C_mem _ _).mpr ⟨T, hT, by rw [hF]; exact hFT, rfl⟩)
    have q' : mb_ws (fun v => 4096 * W v + 2 ^ v) T ≤ p.2 := q
    rw [mb_wsG W hT] at q'
    omega
section
variable {fn fw fi fo mi mo sz ns cu cs ex bv bt : Int32} {a1 a2 a3 a4 a5 a6 a7 a8 a9 a10 a11 a12 a13 a14 a15 a16 a17 : Nat → Int32}
variable {J W : Nat → Nat} {FI FO w : Nat} {F : Nat → Bool} {post : Int32 → St2 → Prop}
theorem mb_solveW {post : St2 → Prop} (o : mb_O J W FI FO w fn fw fi fo a1 a2) (hF : ∀ T, mb_ok (mb_PG J W FI FO) 5 31 T = F T)
    (H : ∀ (mi mo sz ns cu cs ex bv bt : Int32) (a3 a4 a5 a6 a7 a8 a9 a10 a11 a12 a13 a14 a15 a16 : Nat → Int32), mb_RS F W bv bt → post (fn, fw, fi, fo, mi, mo, sz, ns, cu, cs, ex, bv, bt, a1, a2, a3, a4, a5, a6, a7, a8, a9, a10, a11, a12, a13, a14, a15, a16, a17)) :
    wpX_takeWeights (fun u => wpX_solve post u) (fn, fw, fi, fo, mi, mo, sz, ns, cu, cs, ex, bv, bt, a1, a2, a3, a4, a5, a6, a7, a8, a9, a10, a11, a12, a13, a14, a15, a16, a17) := by
  refine mb_takeWeights o (fun b3 g3 => ?_)
  have ob : mb_ob (mb_PG J W FI FO) fi fo a1 b3 := by
    obtain ⟨_, _, _, _, o1, _, o2, _, o3⟩ := o
    exact ⟨o1, o2, fun v hv => ⟨(o3 v hv).1, g3 v hv⟩⟩
  exact mb_solve (mb_PG_ok o) ob o.1 o.2.1 o.2.2.1 o.2.2.2.1 (fun sz ns cu cs ex bv bt a4 a5 a6 a7 a8 a9 a10 a11 a12 a13 a14 a15 a16 g => H _ _ sz ns cu cs ex bv bt _ a4 a5 a6 a7 a8 a9 a10 a11 a12 a13 a14 a15 a16 (mb_RS_of (mb_PG_ok o) hF g))
theorem mb_best (o : mb_O J W FI FO w fn fw fi fo a1 a2) (hF : ∀ T, mb_ok (mb_PG J W FI FO) 5 31 T = F T)
    (H : ∀ (r mi mo sz ns cu cs ex bv bt : Int32) (a3 a4 a5 a6 a7 a8 a9 a10 a11 a12 a13 a14 a15 a16 : Nat → Int32),
      ((r = -1 ∧ ∀ T, T < 32 → F T = false) ∨ ∃ c, c < 32 ∧ F c = true ∧ r = nI (mb_ws W c) ∧ ∀ T, T < 32 → F T = true → mb_ws W T < mb_ws W c ∨ (mb_ws W T = mb_ws W c ∧ T ≤ c)) → post r (fn, fw, fi, fo, mi, mo, sz, ns, cu, cs, ex, bv, bt, a1, a2, a3, a4, a5, a6, a7, a8, a9, a10, a11, a12, a13, a14, a15, a16, a17)) : wpX_best post (fn, fw, fi, fo, mi, mo, sz, ns, cu, cs, ex, bv, bt, a1, a2, a3, a4, a5, a6, a7, a8, a9, a10, a11, a12, a13, a14, a15, a16, a17) := by
  unfold wpX_best
  refine mb_takeWeights o (fun b3 g3 => ?_)
  have ob : mb_ob (mb_PG J W FI FO) fi fo a1 b3 := by
    obtain ⟨_, _, _, _, o1, _, o2, _, o3⟩ := o
    exact ⟨o1, o2, fun v hv => ⟨(o3 v hv).1, g3 v hv⟩⟩
  refine mb_solve (mb_PG_ok o) ob o.1 o.2.1 o.2.2.1 o.2.2.2.1 (fun sz ns cu cs ex bv bt a4 a5 a6 a7 a8 a9 a10 a11 a12 a13 a14 a15 a16 g => ?_)
  rcases mb_RS_of (mb_PG_ok o) hF g with ⟨h1, h2⟩ | ⟨c, h1, h2, ⟨x, h3, h4⟩, h5, h6⟩
  · subst h1
    exact br_f (by decide) (H _ _ _ _ _ _ _ _ _ _ _ _ _ _ _ _ _ _ _ _ _ _ _ _ (Or.inl ⟨rfl, h2⟩))
  · subst h3 h5
    exact br_t (nI_pos' (by omega)) (mb_weightOf o h1 (H _ _ _ _ _ _ _ _ _ _ _ _ _ _ _ _ _ _ _ _ _ _ _ _ (Or.inr ⟨c, h1, h2, rfl, h6⟩)))
theorem mb_bestSet (o : mb_O J W FI FO w fn fw fi fo a1 a2) (hF : ∀ T, mb_ok (mb_PG J W FI FO) 5 31 T = F T)
    (H : ∀ (r mi mo sz ns cu cs ex bv bt : Int32) (a3 a4 a5 a6 a7 a8 a9 a10 a11 a12 a13 a14 a15 a16 : Nat → Int32),
      ((r = -1 ∧ ∀ T, T < 32 → F T = false) ∨ ∃ c, c < 32 ∧ F c = true ∧ r = nI c ∧ ∀ T, T < 32 → F T = true → mb_ws W T < mb_ws W c ∨ (mb_ws W T = mb_ws W c ∧ T ≤ c)) → post r (fn, fw, fi, fo, mi, mo, sz, ns, cu, cs, ex, bv, bt, a1, a2, a3, a4, a5, a6, a7, a8, a9, a10, a11, a12, a13, a14, a15, a16, a17)) : wpX_bestSet post (fn, fw, fi, fo, mi, mo, sz, ns, cu, cs, ex, bv, bt, a1, a2, a3, a4, a5, a6, a7, a8, a9, a10, a11, a12, a13, a14, a15, a16, a17) := by
  unfold wpX_bestSet
  refine mb_takeWeights o (fun b3 g3 => ?_)
  have ob : mb_ob (mb_PG J W FI FO) fi fo a1 b3 := by
    obtain ⟨_, _, _, _, o1, _, o2, _, o3⟩ := o
    exact ⟨o1, o2, fun v hv => ⟨(o3 v hv).1, g3 v hv⟩⟩
  refine mb_solve (mb_PG_ok o) ob o.1 o.2.1 o.2.2.1 o.2.2.2.1 (fun sz ns cu cs ex bv bt a4 a5 a6 a7 a8 a9 a10 a11 a12 a13 a14 a15 a16 g => ?_)
  rcases mb_RS_of (mb_PG_ok o) hF g with ⟨h1, h2⟩ | ⟨c, h1, h2, ⟨x, h3, h4⟩, h5, h6⟩
  · subst h1
    exact br_f (by decide) (H _ _ _ _ _ _ _ _ _ _ _ _ _ _ _ _ _ _ _ _ _ _ _ _ (Or.inl ⟨rfl, h2⟩))
  · subst h3 h5
    exact br_t (nI_pos' (by omega)) (H _ _ _ _ _ _ _ _ _ _ _ _ _ _ _ _ _ _ _ _ _ _ _ _ (Or.inr ⟨c, h1, h2, rfl, h6⟩))
theorem mb_alpha (o : mb_O J W FI FO w fn fw fi fo a1 a2) (hF : ∀ T, mb_ok (mb_PG J (fun _ => 1) 0 0) 5 31 T = F T) (h0 : F 0 = true)
    (H : ∀ (r mi mo sz ns cu cs ex bv bt : Int32) (a3 a4 a5 a6 a7 a8 a9 a10 a11 a12 a13 a14 a15 a16 : Nat → Int32),
      (∃ c, c < 32 ∧ F c = true ∧ r = nI (mb_ws (fun _ => 1) c) ∧ ∀ T, T < 32 → F T = true → mb_ws (fun _ => 1) T < mb_ws (fun _ => 1) c ∨ (mb_ws (fun _ => 1) T = mb_ws (fun _ => 1) c ∧ T ≤ c)) → post r (fn, fw, fi, fo, mi, mo, sz, ns, cu, cs, ex, bv, bt, a1, a2, a3, a4, a5, a6, a7, a8, a9, a10, a11, a12, a13, a14, a15, a16, a17)) : wpX_alpha post (fn, fw, fi, fo, mi, mo, sz, ns, cu, cs, ex, bv, bt, a1, a2, a3, a4, a5, a6, a7, a8, a9, a10, a11, a12, a13, a14, a15, a16, a17) := by
  unfold wpX_alpha
  refine mb_takeOnes o (fun b3 g3 => ?_)
  have ob : mb_ob (mb_PG J (fun _ => 1) 0 0) 0 0 a1 b3 := by
    obtain ⟨_, _, _, _, o1, _, o2, _, o3⟩ := o
    exact ⟨rfl, rfl, fun v hv => ⟨(o3 v hv).1, g3 v hv⟩⟩
  refine mb_solve (mb_PG1_ok o) ob o.1 o.2.1 o.2.2.1 o.2.2.2.1 (fun sz ns cu cs ex bv bt a4 a5 a6 a7 a8 a9 a10 a11 a12 a13 a14 a15 a16 g => ?_)
  rcases mb_RS_of (mb_PG1_ok o) hF g with ⟨h1, h2⟩ | ⟨c, h1, h2, ⟨x, h3, h4⟩, h5, h6⟩
  · rw [h2 0 (by omega)] at h0
    exact absurd h0 (by decide)
  · subst h3 h5
    exact mb_ones h1 (H _ _ _ _ _ _ _ _ _ _ _ _ _ _ _ _ _ _ _ _ _ _ _ _ ⟨c, h1, h2, rfl, h6⟩)
theorem mb_lc : ∀ c, c < 32 → nI 31 &&& (nI c ^^^ (-1)) = nI (31 - c) := by decide +kernel
theorem mb_leastCover (o : mb_O J W FI FO w fn fw fi fo a1 a2) (hF : ∀ T, mb_ok (mb_PG J (fun _ => 1) 0 0) 5 31 T = F T) (h0 : F 0 = true)
    (H : ∀ (r mi mo sz ns cu cs ex bv bt : Int32) (a3 a4 a5 a6 a7 a8 a9 a10 a11 a12 a13 a14 a15 a16 : Nat → Int32),
      (∃ c, c < 32 ∧ F c = true ∧ r = nI (31 - c) ∧ ∀ T, T < 32 → F T = true → mb_ws (fun _ => 1) T < mb_ws (fun _ => 1) c ∨ (mb_ws (fun _ => 1) T = mb_ws (fun _ => 1) c ∧ T ≤ c)) → post r (fn, fw, fi, fo, mi, mo, sz, ns, cu, cs, ex, bv, bt, a1, a2, a3, a4, a5, a6, a7, a8, a9, a10, a11, a12, a13, a14, a15, a16, a17)) : wpX_leastCover post (fn, fw, fi, fo, mi, mo, sz, ns, cu, cs, ex, bv, bt, a1, a2, a3, a4, a5, a6, a7, a8, a9, a10, a11, a12, a13, a14, a15, a16, a17) := by
  unfold wpX_leastCover
  refine mb_takeOnes o (fun b3 g3 => ?_)
  have ob : mb_ob (mb_PG J (fun _ => 1) 0 0) 0 0 a1 b3 := by
    obtain ⟨_, _, _, _, o1, _, o2, _, o3⟩ := o
    exact ⟨rfl, rfl, fun v hv => ⟨(o3 v hv).1, g3 v hv⟩⟩
  refine mb_solve (mb_PG1_ok o) ob o.1 o.2.1 o.2.2.1 o.2.2.2.1 (fun sz ns cu cs ex bv bt a4 a5 a6 a7 a8 a9 a10 a11 a12 a13 a14 a15 a16 g => ?_)
  rcases mb_RS_of (mb_PG1_ok o) hF g with ⟨h1, h2⟩ | ⟨c, h1, h2, ⟨x, h3, h4⟩, h5, h6⟩
  · rw [h2 0 (by omega)] at h0
    exact absurd h0 (by decide)
  · subst h3 h5
    refine H _ _ _ _ _ _ _ _ _ _ _ _ _ _ _ _ _ _ _ _ _ _ _ _ ⟨c, h1, h2, ?_, h6⟩
    rw [← mb_lc c h1, o.1]
    rfl
theorem mb_bestSets (o : mb_O J W FI FO w fn fw fi fo a1 a2) (hF : ∀ T, mb_ok (mb_PG J W FI FO) 5 31 T = F T)
    (H : ∀ (r mi mo sz ns cu cs ex bv bt : Int32) (a3 a4 a5 a6 a7 a8 a9 a10 a11 a12 a13 a14 a15 a16 a17 : Nat → Int32),
      ((r = 0 ∧ ∀ T, T < 32 → F T = false) ∨ ∃ c, c < 32 ∧ F c = true ∧ r = nI ((mb_ds 32).countP (fun T => F T && decide (mb_ws W T = mb_ws W c))) ∧ ∀ T, T < 32 → F T = true → mb_ws W T < mb_ws W c ∨ (mb_ws W T = mb_ws W c ∧ T ≤ c)) → post r (fn, fw, fi, fo, mi, mo, sz, ns, cu, cs, ex, bv, bt, a1, a2, a3, a4, a5, a6, a7, a8, a9, a10, a11, a12, a13, a14, a15, a16, a17)) : wpX_bestSets post (fn, fw, fi, fo, mi, mo, sz, ns, cu, cs, ex, bv, bt, a1, a2, a3, a4, a5, a6, a7, a8, a9, a10, a11, a12, a13, a14, a15, a16, a17) := by
  unfold wpX_bestSets
  refine mb_best o hF (fun r mi mo sz ns cu cs ex bv bt a3 a4 a5 a6 a7 a8 a9 a10 a11 a12 a13 a14 a15 a16 g => ?_)
  rcases g with ⟨h1, h2⟩ | ⟨c, h1, h2, h3, h4⟩
  · subst h1
    exact br_f (by decide) (H _ _ _ _ _ _ _ _ _ _ _ _ _ _ _ _ _ _ _ _ _ _ _ _ _ (Or.inl ⟨rfl, h2⟩))
  · subst h3
    have hW : ∀ v, v < 5 → W v ≤ 15 := fun v hv => (o.2.2.2.2.2.2.2.2 v hv).2.2.2
    have hw : mb_ws W c < 1000000 := by
      have g0 := hW 0 (by omega)
      have g1 := hW 1 (by omega)
      have g2 := hW 2 (by omega)
      have g3 := hW 3 (by omega)
      have g4 := hW 4 (by omega)
      have q : ∀ v, v < 5 → (if c.testBit v = true then W v else 0) ≤ 15 := by
        intro v hv
        have := hW v hv
        by_cases e : c.testBit v = true
        · rw [if_pos e]; exact this
        · rw [if_neg e]; exact Nat.zero_le _
      have q0 := q 0 (by omega)
      have q1 := q 1 (by omega)
      have q2 := q 2 (by omega)
      have q3 := q 3 (by omega)
      have q4 := q 4 (by omega)
      show ((((0 + (if c.testBit 0 = true then W 0 else 0)) + (if c.testBit 1 = true then W 1 else 0)) + (if c.testBit 2 = true then W 2 else 0)) + (if c.testBit 3 = true then W 3 else 0)) + (if c.testBit 4 = true then W 4 else 0) < 1000000
      omega
    refine br_t (nI_pos' (by omega)) (mb_atLeast o hw (fun mi mo a3 a13 a14 a15 a17 => H _ _ _ _ _ _ _ _ _ _ _ _ _ _ _ _ _ _ _ _ _ _ _ _ _ (Or.inr ⟨c, h1, h2, ?_, h4⟩)))
    rw [mb_C_cnt]
    congr 1
    apply List.countP_congr
    intro T hT
    have hT' := ((mb_ds_mem (by omega)).mp hT).1
    have eo : mb_ok (mb_PW J W FI FO) 5 31 T = F T := by rw [← hF T]; exact mb_ok_G J _ _ FI FO 5 31 T
    show (mb_ok (mb_PW J W FI FO) 5 31 T && decide (mb_ws W c ≤ mb_ws W T)) = true ↔ (F T && decide (mb_ws W T = mb_ws W c)) = true
    rw [eo, Bool.and_eq_true, Bool.and_eq_true, decide_eq_true_iff, decide_eq_true_iff]
    constructor
    · rintro ⟨y1, y2⟩
      have := h4 T hT' y1
      exact ⟨y1, by omega⟩
    · rintro ⟨y1, y2⟩
      exact ⟨y1, by omega⟩
end
end
section
section
variable {F I : Nat → Bool} {ws zs : Nat → Nat}
theorem mb_d32 {T : Nat} : T ∈ mb_ds 32 ↔ T < 32 := by
  rw [mb_ds_mem (by omega)]
  omega
theorem mb_q6 {r y6 y7 y9 : Int32} (h : mb_LB F ws 32 y6 y7 y9) (g : (r = -1 ∧ ∀ T, T < 32 → F T = false) ∨ ∃ c, c < 32 ∧ F c = true ∧ r = nI (ws c) ∧ ∀ T, T < 32 → F T = true → ws T < ws c ∨ (ws T = ws c ∧ T ≤ c)) : r = y6 := by
  rcases h with ⟨h1, h2, h3, h4⟩ | ⟨c, h1, h2, h3, h4, h5, h6⟩
  · rcases g with ⟨g1, g2⟩ | ⟨d, g1, g2, g3, g4⟩
    · rw [g1, h1]
    · rw [h4 d (mb_d32.mpr g1)] at g2
      exact absurd g2 (by decide)
  · rcases g with ⟨g1, g2⟩ | ⟨d, g1, g2, g3, g4⟩
    · rw [g2 c (mb_d32.mp h1)] at h2
      exact absurd h2 (by decide)
    · have a := h5 d (mb_d32.mpr g1) g2
      have b := g4 c (mb_d32.mp h1) h2
      have e : d = c := by omega
      rw [g3, h3, e]
theorem mb_q7 {r y6 y7 y9 : Int32} (h : mb_LB F ws 32 y6 y7 y9) (g : (r = -1 ∧ ∀ T, T < 32 → F T = false) ∨ ∃ c, c < 32 ∧ F c = true ∧ r = nI c ∧ ∀ T, T < 32 → F T = true → ws T < ws c ∨ (ws T = ws c ∧ T ≤ c)) : r = y7 := by
  rcases h with ⟨h1, h2, h3, h4⟩ | ⟨c, h1, h2, h3, h4, h5, h6⟩
  · rcases g with ⟨g1, g2⟩ | ⟨d, g1, g2, g3, g4⟩
    · rw [g1, h2]
    · rw [h4 d (mb_d32.mpr g1)] at g2
      exact absurd g2 (by decide)
  · rcases g with ⟨g1, g2⟩ | ⟨d, g1, g2, g3, g4⟩
    · rw [g2 c (mb_d32.mp h1)] at h2
      exact absurd h2 (by decide)
    · have a := h5 d (mb_d32.mpr g1) g2
      have b := g4 c (mb_d32.mp h1) h2
      have e : d = c := by omega
      rw [g3, h4, e]
theorem mb_q9 {r y6 y7 y9 : Int32} (h : mb_LB F ws 32 y6 y7 y9) (g : (r = 0 ∧ ∀ T, T < 32 → F T = false) ∨ ∃ c, c < 32 ∧ F c = true ∧ r = nI ((mb_ds 32).countP (fun T => F T && decide (ws T = ws c))) ∧ ∀ T, T < 32 → F T = true → ws T < ws c ∨ (ws T = ws c ∧ T ≤ c)) : r = y9 := by
  rcases h with ⟨h1, h2, h3, h4⟩ | ⟨c, h1, h2, h3, h4, h5, h6⟩
  · rcases g with ⟨g1, g2⟩ | ⟨d, g1, g2, g3, g4⟩
    · rw [g1, h3]
    · rw [h4 d (mb_d32.mpr g1)] at g2
      exact absurd g2 (by decide)
  · rcases g with ⟨g1, g2⟩ | ⟨d, g1, g2, g3, g4⟩
    · rw [g2 c (mb_d32.mp h1)] at h2
      exact absurd h2 (by decide)
    · have a := h5 d (mb_d32.mpr g1) g2
      have b := g4 c (mb_d32.mp h1) h2
      have e : d = c := by omega
      rw [g3, h6, e]
theorem mb_q12 {r y11 y12 : Int32} (h : mb_LC I zs 32 y11 y12) (g : ∃ c, c < 32 ∧ I c = true ∧ r = nI (zs c) ∧ ∀ T, T < 32 → I T = true → zs T < zs c ∨ (zs T = zs c ∧ T ≤ c)) : r = y12 := by
  obtain ⟨d, g1, g2, g3, g4⟩ := g
  rcases h with ⟨h1, h2, h3⟩ | ⟨c, h1, h2, h3, h4, h5, h6⟩
  · rw [g3, h1, h3 d (mb_d32.mpr g1) g2]
    rfl
  · have a := h6 d (mb_d32.mpr g1) g2
    have b := g4 c (mb_d32.mp h1) h2
    have e : d = c := by omega
    rw [g3, h4, e]
theorem mb_q11 {r y11 y12 : Int32} (hz : ∀ T, T < 32 → zs T = 0 → T = 0) (h : mb_LC I zs 32 y11 y12) (g : ∃ c, c < 32 ∧ I c = true ∧ r = nI (31 - c) ∧ ∀ T, T < 32 → I T = true → zs T < zs c ∨ (zs T = zs c ∧ T ≤ c)) : r = y11 := by
  obtain ⟨d, g1, g2, g3, g4⟩ := g
  rcases h with ⟨h1, h2, h3⟩ | ⟨c, h1, h2, h3, h4, h5, h6⟩
  · rw [g3, h2, hz d g1 (h3 d (mb_d32.mpr g1) g2)]
    rfl
  · have a := h6 d (mb_d32.mpr g1) g2
    have b := g4 c (mb_d32.mp h1) h2
    have e : d = c := by omega
    rw [g3, h5, e]
end
theorem mb_z0 : ∀ T, T < 32 → mb_ws (fun _ => 1) T = 0 → T = 0 := by decide +kernel
section
variable {x1 x3 : Int32} {J : Nat → Nat} {K L : Nat}
theorem mb_I0 (x : Int32) : mb_I x 0 = true := by
  rw [mb_I_iff]
  intro v hv u hu tu
  rw [Nat.zero_testBit] at tu
  exact absurd tu (by decide)
theorem mb_ps1 (hJ : mb_Js x1 5 0 J) (hI : ∀ c, c < 5 → K.testBit c = decide (c < 5 ∧ mb_Hw x3 c = 1)) (h : ∀ v, v < 5 → K.testBit v = true → J v &&& K = 0) : mb_F x1 x3 K = true := by
  unfold mb_F
  rw [mb_fv_iff, mb_I_iff]
  refine ⟨fun v hv u hu tu tv => ?_, fun v hv => mb_hk_iff.mpr ⟨fun e => ?_, fun e => ?_⟩⟩
  · have t := congrArg (fun m => Nat.testBit m v) (h u (by omega) tu)
    have t' : (J u &&& K).testBit v = Nat.testBit 0 v := t
    rw [Nat.testBit_and, Nat.zero_testBit, tv, Bool.and_true, (hJ u (by omega)).2 v hv, (mb_dn_5 x1 hu hv).1] at t'
    exact t'
  · rw [hI v hv, decide_eq_true ⟨hv, e⟩]
  · rw [hI v hv, decide_eq_false (fun z => by omega)]
theorem mb_ps0 (hK : K < 32) (hJ : mb_Js x1 5 0 J) (hI : ∀ c, c < 5 → K.testBit c = decide (c < 5 ∧ mb_Hw x3 c = 1)) (h : ∃ v, v < 5 ∧ K.testBit v = true ∧ ¬ J v &&& K = 0) (T : Nat) : mb_F x1 x3 T = false := by
  obtain ⟨v, hv, kv, nz⟩ := h
  obtain ⟨u, hu⟩ := Nat.exists_testBit_of_ne_zero nz
  have hu' : (J v &&& K).testBit u = true := hu
  rw [Nat.testBit_and, Bool.and_eq_true] at hu'
  have hu5 : u < 5 := by
    rcases Nat.lt_or_ge u 5 with q | q
    · exact q
    · have : K.testBit u = false := Nat.testBit_lt_two_pow (Nat.lt_of_lt_of_le (show K < 2 ^ 5 from hK) (Nat.pow_le_pow_right (by omega) q))
      rw [this] at hu'
      exact absurd hu'.2 (by decide)
  cases c : mb_F x1 x3 T
  · rfl
  · exfalso
    unfold mb_F at c
    rw [mb_fv_iff, mb_I_iff] at c
    obtain ⟨c1, c2⟩ := c
    have sub : ∀ a, a < 5 → K.testBit a = true → T.testBit a = true := by
      intro a ha ka
      rw [hI a ha] at ka
      exact (mb_hk_iff.mp (c2 a ha)).1 (of_decide_eq_true ka).2
    have tv := sub v hv kv
    have tu := sub u hu5 hu'.2
    have j := hu'.1
    rw [(hJ v hv).2 u hu5] at j
    rcases Nat.lt_trichotomy u v with q | q | q
    · rw [(mb_dn_5 x1 q hv).2, c1 v hv u q tu tv] at j
      exact absurd j (by decide)
    · subst q
      unfold mb_dn at j
      rw [if_neg (by omega), if_neg (by omega)] at j
      exact absurd j (by decide)
    · rw [(mb_dn_5 x1 q hu5).1, c1 u hu5 v q tv tu] at j
      exact absurd j (by decide)
end
section
variable {fn fw fi fo mi mo sz ns cu cs ex bv bt : Int32} {a1 a2 a3 a4 a5 a6 a7 a8 a9 a10 a11 a12 a13 a14 a15 a16 a17 : Nat → Int32}
variable {post : Int32 → St0 → Prop} {mc ms kc ks : Nat} {x1 x2 x3 x4 : Int32} {b : Nat} {J : Nat → Nat} {FI FO w : Nat}
theorem mb_fin {y6 y7 y8 y9 y10 y11 y12 : Int32} (Hp : post 1 ()) (o : mb_O J (mb_Wt x2) FI FO w fn fw fi fo a1 a2) (hJ : mb_Js x1 5 0 J) (hI : ∀ c, c < 5 → FI.testBit c = decide (c < 5 ∧ mb_Hw x3 c = 1)) (hO : ∀ c, c < 5 → FO.testBit c = decide (c < 5 ∧ mb_Hw x3 c = 2)) (hb : b ≤ 31)
    (h : mb_LI (mb_F x1 x3) (mb_I x1) (mb_ws (mb_Wt x2)) (mb_ws (fun _ => 1)) b 32 y6 y7 y8 y9 y10 y11 y12) :
    wL_lawOf_132 post mc ms x1 x2 x3 (nI b) kc ks fn fw fi fo mi mo sz ns cu cs ex bv bt a1 a2 a3 a4 a5 a6 a7 a8 a9 a10 a11 a12 a13 a14 a15 a16 a17 (0 + 1) y6 y7 y8 y9 y10 y11 y12 (nI 0 - 1) := by
  obtain ⟨hB, hA, hR, hC⟩ := h
  have hF : ∀ T, mb_ok (mb_PG J (mb_Wt x2) FI FO) 5 31 T = mb_F x1 x3 T := fun T => mb_okF hJ hI hO
  have hFW : ∀ T, mb_ok (mb_PW J (mb_Wt x2) FI FO) 5 31 T = mb_F x1 x3 T := fun T => mb_okF hJ hI hO
  have hF1 : ∀ T, mb_ok (mb_PG J (fun _ => 1) 0 0) 5 31 T = mb_I x1 T := fun T => mb_okI hJ
  refine br_t (by decide) ?_
  refine mb_best o hF (fun r mi mo sz ns cu cs ex bv bt a3 a4 a5 a6 a7 a8 a9 a10 a11 a12 a13 a14 a15 a16 g => br_t (mb_q6 hB g) ?_)
  refine mb_bestSet o hF (fun r mi mo sz ns cu cs ex bv bt a3 a4 a5 a6 a7 a8 a9 a10 a11 a12 a13 a14 a15 a16 g => br_t (mb_q7 hB g) ?_)
  refine mb_allowedSets o (fun mi mo sz ns a3 a4 a5 a6 a7 a8 => br_t ?_ ?_)
  · rw [mb_C_len, hA]
    congr 2
    funext T
    exact hF T
  refine mb_bestSets o hF (fun r mi mo sz ns cu cs ex bv bt a3 a4 a5 a6 a7 a8 a9 a10 a11 a12 a13 a14 a15 a16 a17 g => br_t (mb_q9 hB g) ?_)
  refine mb_atLeast o (by omega) (fun mi mo a3 a13 a14 a15 a17 => br_t ?_ ?_)
  · rw [mb_C_cnt, hR]
    congr 2
    funext T
    rw [hFW T]
    rfl
  refine mb_alpha o hF1 (mb_I0 x1) (fun r mi mo sz ns cu cs ex bv bt a3 a4 a5 a6 a7 a8 a9 a10 a11 a12 a13 a14 a15 a16 g => br_t (mb_q12 hC g) ?_)
  refine mb_leastCover o hF1 (mb_I0 x1) (fun r mi mo sz ns cu cs ex bv bt a3 a4 a5 a6 a7 a8 a9 a10 a11 a12 a13 a14 a15 a16 g => br_t (mb_q11 mb_z0 hC g) ?_)
  have hle : (mb_ds 32).countP (mb_F x1 x3) ≤ 32 := List.countP_le_length
  have hK : FI < 32 := o.2.2.2.2.2.1
  refine mb_possible o (fun q => ?_) (fun q => ?_)
  · have t : 0 < (mb_ds 32).countP (mb_F x1 x3) := List.countP_pos_iff.mpr ⟨FI, mb_d32.mpr hK, mb_ps1 hJ hI q⟩
    exact pk_le ((mb_ds 32).countP (mb_F x1 x3)) 0 (fun z => absurd z (by omega)) (fun _ => br_t rfl Hp) hA
  · have t : (mb_ds 32).countP (mb_F x1 x3) = 0 := by
      rw [List.countP_eq_zero]
      intro T _
      rw [mb_ps0 hK hJ hI q T]
      decide
    exact pk_le ((mb_ds 32).countP (mb_F x1 x3)) 0 (fun _ => br_t rfl Hp) (fun z => absurd z (by omega)) hA
end
theorem mb_lawOf {post : Int32 → St0 → Prop} (Hp : post 1 ()) (p0 p1 p2 p3 p4 : Int32) : wpL_lawOf post 18 1679 () p0 p1 p2 p3 p4 := by
  unfold wpL_lawOf
  refine ⟨by decide, by decide, 17, 1649, by decide, by decide, ?_⟩
  refine mb_init (fun w b2 h1 h2 => ⟨5 + 1, ?_⟩)
  refine mb_l14 rfl (fun fi fo a1 a2 hJ hW hI hO => ?_) 5 0 0 0 _ b2 (by omega) ⟨fun _ => 0, fun a _ => rfl, fun a _ => ⟨by show 0 < 32; decide, fun c _ => by show Nat.testBit 0 c = _; rw [Nat.zero_testBit, mb_dn_0]⟩⟩ (fun a ha => absurd ha (by omega)) ⟨0, rfl, by decide, fun c _ => by rw [Nat.zero_testBit, decide_eq_false (by omega)]⟩ ⟨0, rfl, by decide, fun c _ => by rw [Nat.zero_testBit, decide_eq_false (by omega)]⟩
  obtain ⟨J, j1, j2⟩ := hJ
  obtain ⟨K, k1, k2, k3⟩ := hI
  obtain ⟨L, l1, l2, l3⟩ := hO
  have hb : p4.toBitVec.toNat % 2 ^ 5 < 2 ^ 5 := Nat.mod_lt _ (by decide)
  rw [pk_and p4 5 (by decide)]
  refine ⟨4 + 1, ?_⟩
  have o : ∀ (fn fw : Int32), fn = 5 → fw = nI w → mb_O J (mb_Wt p2) K L w fn fw fi fo a1 a2 := fun fn fw e1 e2 => ⟨e1, e2, h1, h2, k1, k2, l1, l2, fun v hv => ⟨j1 v hv, (j2 v hv).1, hW v hv, mb_Wt_le p2 v⟩⟩
  have n0 : ∀ T : Nat, T ∈ mb_ds (32 - 8 * 4) → False := fun T hT => by
    have := (mb_ds_mem (by omega)).mp hT
    omega
  rw [show (3 : Int32) = nI 4 - 1 from by decide]
  exact mb_l132 (b := p4.toBitVec.toNat % 2 ^ 5) (by omega) (fun y6 y7 y8 y9 y10 y11 y12 g => mb_fin Hp (o 5 (nI w) rfl rfl) j2 k3 l3 (by omega) g) 4 (-1) (-1) 0 0 0 31 0 (by omega) ⟨Or.inl ⟨rfl, rfl, rfl, fun T hT => absurd (n0 T hT) id⟩, rfl, rfl, Or.inl ⟨rfl, rfl, fun T hT => absurd (n0 T hT) id⟩⟩
theorem mb_cell {post : Int32 → Prop} {L k : Nat} {xs : Nat → Int32} (hL : L ≤ 5) (hk : k < 5) (H : ∀ r, post r) : wpL_cellAt post L xs () (nI k) := by
  unfold wpL_cellAt
  exact pk_le L k (fun _ => H _) (fun z => ⟨pk_in k L z, H _⟩)
theorem i_vc (xs : Nat → Int32) (L : Nat) (hL : L ≤ 5) : wpL_law (fun r => r = 1) L xs := by
  unfold wpL_law
  refine mb_cell (k := 0) hL (by omega) (fun r1 => ?_)
  refine mb_cell (k := 1) hL (by omega) (fun r2 => ?_)
  refine mb_cell (k := 2) hL (by omega) (fun r3 => ?_)
  refine mb_cell (k := 3) hL (by omega) (fun r4 => ?_)
  refine mb_cell (k := 4) hL (by omega) (fun r5 => ?_)
  exact ⟨18, 1679, by decide, by decide, mb_lawOf rfl r1 r2 r3 r4 r5⟩
end
