section
/-! PLAIN 1: numbers, lists, the local picture of the pieces.
 f k x: the component's array number k (0 left, 1 right, 2 above, 3 value, 4 size, 5 sum, 6 least, 7 whole, 8 hanging, 9 turned, 10 painted, 11 colour, 12 stack) at node x.
 sv x (ghost): the nodes at and below x in its piece, in order, with their values, as seen from x. -/
abbrev pz_S : Type := Nat → Nat → Int32
abbrev pz_V : Type := Nat → List (Nat × Int32)
def pz_fu (f : pz_S) (k i : Nat) (v : Int32) : pz_S := fun a b => if a = k ∧ b = i then v else f a b
theorem pz_fu_s {f : pz_S} {k i : Nat} {v : Int32} : pz_fu f k i v k i = v := by simp [pz_fu]
theorem pz_fu_k {f : pz_S} {k i a b : Nat} {v : Int32} (h : a ≠ k) : pz_fu f k i v a b = f a b := by simp [pz_fu, h]
theorem pz_fu_i {f : pz_S} {k i a b : Nat} {v : Int32} (h : b ≠ i) : pz_fu f k i v a b = f a b := by simp [pz_fu, h]
theorem pz_inj {a b : Nat} (ha : a < 24) (hb : b < 24) (h : nI a = nI b) : a = b := (nI_eq (by omega) (by omega)).mp h
theorem pz_nlt {a : Nat} (ha : a < 24) : ¬ nI a < 0 := nI_pos (by omega)
theorem pz_cl {a : Nat} (ha : a < 24) : (nI a).toNatClampNeg = a := nI_clamp (by omega)
theorem pz_m1 : (-1 : Int32) < 0 := by decide
theorem pz_nm {a : Nat} (ha : a < 24) : nI a ≠ -1 := by
  intro h
  have h1 := pz_nlt ha
  rw [h] at h1
  exact h1 pz_m1
/-- a pointer: none, or a node -/
def pz_P (v : Int32) : Prop := v = -1 ∨ ∃ j : Nat, j < 24 ∧ v = nI j
theorem pz_P_n {j : Nat} (h : j < 24) : pz_P (nI j) := Or.inr ⟨j, h, rfl⟩
theorem pz_P_m : pz_P (-1) := Or.inl rfl
theorem pz_P_lt {v : Int32} (h : pz_P v) (hl : v < 0) : v = -1 := by
  rcases h with h | ⟨j, hj, h⟩
  · exact h
  · rw [h] at hl
    exact absurd hl (pz_nlt hj)
theorem pz_P_ge {v : Int32} (h : pz_P v) (hl : ¬ v < 0) : ∃ j : Nat, j < 24 ∧ v = nI j := by
  rcases h with h | h
  · rw [h] at hl
    exact absurd pz_m1 hl
  · exact h
/-! sums over lists -/
def pz_sm (w : Nat × Int32 → Int32) : List (Nat × Int32) → Int32
  | [] => 0
  | q :: l => w q + pz_sm w l
theorem pz_sm_app (w : Nat × Int32 → Int32) (a b : List (Nat × Int32)) : pz_sm w (a ++ b) = pz_sm w a + pz_sm w b := by
  induction a with
  | nil => simp [pz_sm]
  | cons q a ih =>
    rw [List.cons_append]
    simp only [pz_sm]
    rw [ih, Int32.add_assoc]
theorem pz_sm_rev (w : Nat × Int32 → Int32) (l : List (Nat × Int32)) : pz_sm w l.reverse = pz_sm w l := by
  induction l with
  | nil => rfl
  | cons q l ih =>
    rw [List.reverse_cons, pz_sm_app, ih]
    simp only [pz_sm]
    grind
theorem pz_sm_congr {w w' : Nat × Int32 → Int32} {l : List (Nat × Int32)} (h : ∀ q ∈ l, w q = w' q) : pz_sm w l = pz_sm w' l := by
  induction l with
  | nil => rfl
  | cons q l ih =>
    simp only [pz_sm]
    rw [h q List.mem_cons_self, ih (fun q hq => h q (List.mem_cons_of_mem _ hq))]
theorem pz_sm_map (w : Nat × Int32 → Int32) (p : Nat × Int32 → Nat × Int32) (l : List (Nat × Int32)) : pz_sm w (l.map p) = pz_sm (fun q => w (p q)) l := by
  induction l with
  | nil => rfl
  | cons q l ih =>
    rw [List.map_cons]
    simp only [pz_sm]
    rw [ih]
theorem pz_sm_add (w w' : Nat × Int32 → Int32) (l : List (Nat × Int32)) : pz_sm (fun q => w q + w' q) l = pz_sm w l + pz_sm w' l := by
  induction l with
  | nil => simp [pz_sm]
  | cons q l ih =>
    simp only [pz_sm]
    rw [ih]
    grind
theorem pz_sm_const (c : Int32) (l : List (Nat × Int32)) : pz_sm (fun _ => c) l = nI l.length * c := by
  induction l with
  | nil =>
    rw [List.length_nil, nI_0]
    simp [pz_sm]
  | cons q l ih =>
    simp only [pz_sm]
    rw [ih, List.length_cons, nI_succ]
    grind
/-- v is the least value of the list -/
def pz_ls (v : Int32) (l : List (Nat × Int32)) : Prop := (∃ q ∈ l, q.2 = v) ∧ ∀ q ∈ l, v ≤ q.2
theorem pz_ls_uniq {v w : Int32} {l : List (Nat × Int32)} (h1 : pz_ls v l) (h2 : pz_ls w l) : v = w := by
  obtain ⟨⟨q, hq, e⟩, a⟩ := h1
  obtain ⟨⟨r, hr, e'⟩, b⟩ := h2
  refine Int32.le_antisymm ?_ ?_
  · rw [← e']; exact a r hr
  · rw [← e]; exact b q hq
theorem pz_ls_mem {v : Int32} {l l' : List (Nat × Int32)} (h : pz_ls v l) (hm : ∀ q, q ∈ l' ↔ q ∈ l) : pz_ls v l' := by
  obtain ⟨⟨q, hq, e⟩, a⟩ := h
  exact ⟨⟨q, (hm q).mpr hq, e⟩, fun r hr => a r ((hm r).mp hr)⟩
/-- the nodes of a list -/
def pz_id (l : List (Nat × Int32)) : List Nat := l.map Prod.fst
theorem pz_id_nil : pz_id [] = [] := rfl
theorem pz_id_cons (q : Nat × Int32) (l : List (Nat × Int32)) : pz_id (q :: l) = q.1 :: pz_id l := rfl
theorem pz_id_app (a b : List (Nat × Int32)) : pz_id (a ++ b) = pz_id a ++ pz_id b := List.map_append
theorem pz_id_rev (l : List (Nat × Int32)) : pz_id l.reverse = (pz_id l).reverse := List.map_reverse
theorem pz_id_len (l : List (Nat × Int32)) : (pz_id l).length = l.length := List.length_map _
theorem pz_id_mem {q : Nat × Int32} {l : List (Nat × Int32)} (h : q ∈ l) : q.1 ∈ pz_id l := List.mem_map.mpr ⟨q, h, rfl⟩
theorem pz_id_of {y : Nat} {l : List (Nat × Int32)} (h : y ∈ pz_id l) : ∃ q ∈ l, q.1 = y := List.mem_map.mp h
def pz_pa (c : Int32) (l : List (Nat × Int32)) : List (Nat × Int32) := l.map (fun q => (q.1, c))
theorem pz_id_pa (c : Int32) (l : List (Nat × Int32)) : pz_id (pz_pa c l) = pz_id l := by
  unfold pz_id pz_pa
  rw [List.map_map]
  rfl
theorem pz_pa_len (c : Int32) (l : List (Nat × Int32)) : (pz_pa c l).length = l.length := List.length_map _
theorem pz_pa_pa (c d : Int32) (l : List (Nat × Int32)) : pz_pa c (pz_pa d l) = pz_pa c l := by
  unfold pz_pa
  rw [List.map_map]
  rfl
def pz_rv (b : Int32) (l : List (Nat × Int32)) : List (Nat × Int32) := if b = 0 then l else l.reverse
def pz_pt (b c : Int32) (l : List (Nat × Int32)) : List (Nat × Int32) := if b = 0 then l else pz_pa c l
theorem pz_rv_0 (l : List (Nat × Int32)) : pz_rv 0 l = l := if_pos rfl
theorem pz_pt_0 (c : Int32) (l : List (Nat × Int32)) : pz_pt 0 c l = l := if_pos rfl
theorem pz_rv_mem {b : Int32} {l : List (Nat × Int32)} {q : Nat × Int32} : q ∈ pz_rv b l ↔ q ∈ l := by
  unfold pz_rv
  split
  · rfl
  · exact List.mem_reverse
theorem pz_rv_len {b : Int32} {l : List (Nat × Int32)} : (pz_rv b l).length = l.length := by
  unfold pz_rv
  split
  · rfl
  · exact List.length_reverse
theorem pz_rv_sm {b : Int32} {w : Nat × Int32 → Int32} {l : List (Nat × Int32)} : pz_sm w (pz_rv b l) = pz_sm w l := by
  unfold pz_rv
  split
  · rfl
  · exact pz_sm_rev w l
theorem pz_rv_id {b : Int32} {l : List (Nat × Int32)} {y : Nat} : y ∈ pz_id (pz_rv b l) ↔ y ∈ pz_id l := by
  unfold pz_rv
  split
  · exact Iff.rfl
  · rw [pz_id_rev]
    exact List.mem_reverse
theorem pz_pt_len {b c : Int32} {l : List (Nat × Int32)} : (pz_pt b c l).length = l.length := by
  unfold pz_pt
  split
  · rfl
  · exact pz_pa_len c l
theorem pz_pt_id {b c : Int32} {l : List (Nat × Int32)} : pz_id (pz_pt b c l) = pz_id l := by
  unfold pz_pt
  split
  · rfl
  · exact pz_id_pa c l
theorem pz_pt_rev {b c : Int32} {l : List (Nat × Int32)} : pz_pt b c l.reverse = (pz_pt b c l).reverse := by
  unfold pz_pt pz_pa
  split
  · rfl
  · exact List.map_reverse
theorem pz_nd_rev {l : List Nat} (h : l.Nodup) : l.reverse.Nodup := (List.reverse_perm l).symm.nodup h
/-! the pieces, locally -/
def pz_sc (sv : pz_V) (x : Int32) : List (Nat × Int32) := if x < 0 then [] else sv x.toNatClampNeg
theorem pz_sc_n {sv : pz_V} {j : Nat} (h : j < 24) : pz_sc sv (nI j) = sv j := by
  unfold pz_sc
  rw [if_neg (pz_nlt h), pz_cl h]
theorem pz_sc_m {sv : pz_V} : pz_sc sv (-1) = [] := if_pos pz_m1
abbrev pz_ch (f : pz_S) (x c : Nat) : Prop := f 0 x = nI c ∨ f 1 x = nI c
/-- x is at the top of its piece -/
def pz_tp (f : pz_S) (x : Nat) : Prop := ∀ p, p < 24 → f 2 x = nI p → ¬ pz_ch f p x
def pz_L0 (f : pz_S) (x : Nat) : Prop := pz_P (f 0 x) ∧ pz_P (f 1 x) ∧ pz_P (f 2 x)
def pz_L1 (f : pz_S) (sv : pz_V) (x : Nat) : Prop := sv x = pz_rv (f 9 x) (pz_pt (f 10 x) (f 11 x) (pz_sc sv (f 0 x)) ++ (x, f 3 x) :: pz_pt (f 10 x) (f 11 x) (pz_sc sv (f 1 x)))
def pz_L2 (f : pz_S) (sv : pz_V) (x : Nat) : Prop := f 4 x = nI (sv x).length ∧ f 5 x = pz_sm Prod.snd (sv x) ∧ pz_ls (f 6 x) (sv x) ∧ f 7 x = pz_sm (fun q => q.2 + f 8 q.1) (sv x)
def pz_L3 (f : pz_S) (x : Nat) : Prop := ∀ c, c < 24 → pz_ch f x c → f 2 c = nI x
def pz_L4 (sv : pz_V) (x : Nat) : Prop := (pz_id (sv x)).Nodup ∧ ∀ y ∈ pz_id (sv x), y < 24
def pz_Str (f : pz_S) (sv : pz_V) (x : Nat) : Prop := pz_L0 f x ∧ pz_L1 f sv x ∧ pz_L3 f x ∧ pz_L4 sv x
/-- the invariant of the pieces -/
def pz_I (f : pz_S) (sv : pz_V) : Prop := ∀ x, x < 24 → pz_Str f sv x ∧ pz_L2 f sv x
theorem pz_mem {f : pz_S} {sv : pz_V} {x : Nat} (h : pz_L1 f sv x) (y : Nat) : y ∈ pz_id (sv x) ↔ y = x ∨ y ∈ pz_id (pz_sc sv (f 0 x)) ∨ y ∈ pz_id (pz_sc sv (f 1 x)) := by
  unfold pz_L1 at h
  rw [h, pz_rv_id, pz_id_app, pz_id_cons, pz_pt_id, pz_pt_id, List.mem_append, List.mem_cons]
  constructor
  · rintro (h | h | h)
    · exact Or.inr (Or.inl h)
    · exact Or.inl h
    · exact Or.inr (Or.inr h)
  · rintro (h | h | h)
    · exact Or.inr (Or.inl h)
    · exact Or.inl h
    · exact Or.inr (Or.inr h)
theorem pz_len {f : pz_S} {sv : pz_V} {x : Nat} (h : pz_L1 f sv x) : (sv x).length = (pz_sc sv (f 0 x)).length + (pz_sc sv (f 1 x)).length + 1 := by
  unfold pz_L1 at h
  rw [h, pz_rv_len, List.length_append, List.length_cons, pz_pt_len, pz_pt_len]
  omega
theorem pz_clean {f : pz_S} {sv : pz_V} {x : Nat} (h : pz_L1 f sv x) (h9 : f 9 x = 0) (h10 : f 10 x = 0) : sv x = pz_sc sv (f 0 x) ++ (x, f 3 x) :: pz_sc sv (f 1 x) := by
  unfold pz_L1 at h
  rw [h9, h10, pz_rv_0, pz_pt_0, pz_pt_0] at h
  exact h
section
variable {f : pz_S} {sv : pz_V}
theorem pz_self (hI : pz_I f sv) {x : Nat} (hx : x < 24) : x ∈ pz_id (sv x) := (pz_mem (hI x hx).1.2.1 x).mpr (Or.inl rfl)
theorem pz_ne (hI : pz_I f sv) {x : Nat} (hx : x < 24) : 1 ≤ (sv x).length := by
  have h := pz_len (hI x hx).1.2.1
  omega
theorem pz_bd (hI : pz_I f sv) {x : Nat} (hx : x < 24) : (sv x).length ≤ 24 := by
  obtain ⟨h1, h2⟩ := (hI x hx).1.2.2.2
  have h3 := List.Nodup.length_le_of_subset (l₂ := List.range 24) h1 (fun y hy => List.mem_range.mpr (h2 y hy))
  rw [pz_id_len, List.length_range] at h3
  exact h3
theorem pz_ch_sub (hI : pz_I f sv) {x c : Nat} (hx : x < 24) (hc : c < 24) (h : pz_ch f x c) : (sv c).length < (sv x).length ∧ ∀ y ∈ pz_id (sv c), y ∈ pz_id (sv x) := by
  have h1 := (hI x hx).1.2.1
  have h2 := pz_len h1
  rcases h with h | h
  · rw [h, pz_sc_n hc] at h2
    refine ⟨by omega, fun y hy => (pz_mem h1 y).mpr (Or.inr (Or.inl ?_))⟩
    rw [h, pz_sc_n hc]
    exact hy
  · rw [h, pz_sc_n hc] at h2
    refine ⟨by omega, fun y hy => (pz_mem h1 y).mpr (Or.inr (Or.inr ?_))⟩
    rw [h, pz_sc_n hc]
    exact hy
/-- a node below x, other than x: it lies in the part of a child -/
theorem pz_dn (hI : pz_I f sv) {x y : Nat} (hx : x < 24) (hy : y ∈ pz_id (sv x)) (hn : y ≠ x) : ∃ c, c < 24 ∧ pz_ch f x c ∧ y ∈ pz_id (sv c) := by
  obtain ⟨⟨⟨p0, p1, -⟩, h1, -, -⟩, -⟩ := hI x hx
  rcases (pz_mem h1 y).mp hy with h | h | h
  · exact absurd h hn
  · rcases p0 with e | ⟨j, hj, e⟩
    · rw [e, pz_sc_m] at h
      cases h
    · rw [e, pz_sc_n hj] at h
      exact ⟨j, hj, Or.inl e, h⟩
  · rcases p1 with e | ⟨j, hj, e⟩
    · rw [e, pz_sc_m] at h
      cases h
    · rw [e, pz_sc_n hj] at h
      exact ⟨j, hj, Or.inr e, h⟩
theorem pz_up (hI : pz_I f sv) : ∀ (n x y : Nat), x < 24 → (sv x).length ≤ n → y ∈ pz_id (sv x) → y ≠ x → ∃ p, p < 24 ∧ f 2 y = nI p ∧ pz_ch f p y ∧ p ∈ pz_id (sv x) := by
  intro n
  induction n with
  | zero =>
    intro x y hx hl
    have := pz_ne hI hx
    omega
  | succ n ih =>
    intro x y hx hl hy hn
    obtain ⟨c, hc, hch, hyc⟩ := pz_dn hI hx hy hn
    obtain ⟨hlt, hsub⟩ := pz_ch_sub hI hx hc hch
    by_cases hyx : y = c
    · subst hyx
      exact ⟨x, hx, (hI x hx).1.2.2.1 y hc hch, hch, pz_self hI hx⟩
    · obtain ⟨p, a, b, d, e⟩ := ih c y hc (by omega) hyc hyx
      exact ⟨p, a, b, d, hsub p e⟩
theorem pz_top_mem (hI : pz_I f sv) {x y : Nat} (hx : x < 24) (ht : pz_tp f y) (hy : y ∈ pz_id (sv x)) : y = x := by
  by_cases h : y = x
  · exact h
  · obtain ⟨p, a, b, d, -⟩ := pz_up hI _ x y hx (Nat.le_refl _) hy h
    exact absurd d (ht p a b)
/-- a node that isn't at the top has a node above it, whose child it is -/
theorem pz_ntp {y : Nat} (h : ¬ pz_tp f y) : ∃ p, p < 24 ∧ f 2 y = nI p ∧ pz_ch f p y := by
  refine Classical.byContradiction fun hn => h (fun p hp e hc => hn ⟨p, hp, e, hc⟩)
theorem pz_lt24 (hI : pz_I f sv) {x y : Nat} (hx : x < 24) (hy : y ∈ pz_id (sv x)) : y < 24 := (hI x hx).1.2.2.2.2 y hy
theorem pz_uniq (hI : pz_I f sv) {x1 x2 : Nat} (h1 : x1 < 24) (h2 : x2 < 24) (t1 : pz_tp f x1) (t2 : pz_tp f x2) : ∀ (n y : Nat), 24 - (sv y).length ≤ n → y < 24 → y ∈ pz_id (sv x1) → y ∈ pz_id (sv x2) → x1 = x2 := by
  intro n
  induction n with
  | zero =>
    intro y hl hy m1 m2
    by_cases e1 : y = x1
    · subst e1
      exact pz_top_mem hI h2 t1 m2
    · obtain ⟨p, a, b, d, m⟩ := pz_up hI _ x1 y h1 (Nat.le_refl _) m1 e1
      have := (pz_ch_sub hI a hy d).1
      have := pz_bd hI a
      omega
  | succ n ih =>
    intro y hl hy m1 m2
    by_cases e1 : y = x1
    · subst e1
      exact pz_top_mem hI h2 t1 m2
    · by_cases e2 : y = x2
      · subst e2
        exact (pz_top_mem hI h1 t2 m1).symm
      · obtain ⟨p, a, b, d, m⟩ := pz_up hI _ x1 y h1 (Nat.le_refl _) m1 e1
        obtain ⟨p', a', b', d', m'⟩ := pz_up hI _ x2 y h2 (Nat.le_refl _) m2 e2
        have hpp : p = p' := pz_inj a a' (b.symm.trans b')
        subst hpp
        have := (pz_ch_sub hI a hy d).1
        have := pz_bd hI a
        exact ih p (by omega) a m m'
/-- pieces are apart -/
theorem pz_apart (hI : pz_I f sv) {x1 x2 y : Nat} (h1 : x1 < 24) (h2 : x2 < 24) (t1 : pz_tp f x1) (t2 : pz_tp f x2) (m1 : y ∈ pz_id (sv x1)) (m2 : y ∈ pz_id (sv x2)) : x1 = x2 :=
  pz_uniq hI h1 h2 t1 t2 _ y (Nat.le_refl _) (pz_lt24 hI h1 m1) m1 m2
theorem pz_toptop (hI : pz_I f sv) : ∀ (n y : Nat), 24 - (sv y).length ≤ n → y < 24 → ∃ x, x < 24 ∧ pz_tp f x ∧ ∀ z ∈ pz_id (sv y), z ∈ pz_id (sv x) := by
  intro n
  induction n with
  | zero =>
    intro y hl hy
    by_cases ht : pz_tp f y
    · exact ⟨y, hy, ht, fun _ h => h⟩
    · obtain ⟨p, a, b, d⟩ := pz_ntp ht
      have := (pz_ch_sub hI a hy d).1
      have := pz_bd hI a
      omega
  | succ n ih =>
    intro y hl hy
    by_cases ht : pz_tp f y
    · exact ⟨y, hy, ht, fun _ h => h⟩
    · obtain ⟨p, a, b, d⟩ := pz_ntp ht
      obtain ⟨h1, h2⟩ := pz_ch_sub hI a hy d
      have := pz_bd hI a
      obtain ⟨x, hx, hxt, hs⟩ := ih p (by omega) a
      exact ⟨x, hx, hxt, fun z hz => hs z (h2 z hz)⟩
/-- every node lies in a piece -/
theorem pz_piece (hI : pz_I f sv) {y : Nat} (hy : y < 24) : ∃ x, x < 24 ∧ pz_tp f x ∧ y ∈ pz_id (sv x) := by
  obtain ⟨x, a, b, h⟩ := pz_toptop hI _ y (Nat.le_refl _) hy
  exact ⟨x, a, b, h y (pz_self hI hy)⟩
/-- a child is no ancestor: no node is its own child, the two children differ -/
theorem pz_chne (hI : pz_I f sv) {x c : Nat} (hx : x < 24) (hc : c < 24) (h : pz_ch f x c) : c ≠ x := by
  intro e
  subst e
  exact Nat.lt_irrefl _ (pz_ch_sub hI hx hc h).1
theorem pz_lr (hI : pz_I f sv) {x c d : Nat} (hx : x < 24) (hc : c < 24) (hd : d < 24) (h0 : f 0 x = nI c) (h1 : f 1 x = nI d) : c ≠ d := by
  intro e
  subst e
  obtain ⟨⟨-, hL, -, hn, -⟩, -⟩ := hI x hx
  have h9 : (pz_id (pz_pt (f 10 x) (f 11 x) (pz_sc sv (f 0 x)) ++ (x, f 3 x) :: pz_pt (f 10 x) (f 11 x) (pz_sc sv (f 1 x)))).Nodup := by
    unfold pz_L1 at hL
    unfold pz_rv at hL
    split at hL
    · rw [← hL]; exact hn
    · have := pz_nd_rev hn
      rw [hL, pz_id_rev, List.reverse_reverse] at this
      exact this
  rw [pz_id_app, pz_id_cons, pz_pt_id, pz_pt_id, h0, h1, pz_sc_n hc] at h9
  have h8 := (List.nodup_append.mp h9).2.2 c (pz_self hI hc) c (List.mem_cons_of_mem _ (pz_self hI hc))
  exact h8 rfl
/-- whose child a node is -/
theorem pz_par (hI : pz_I f sv) {x y c : Nat} (hx : x < 24) (hy : y < 24) (hc : c < 24) (h1 : pz_ch f x c) (h2 : pz_ch f y c) : x = y :=
  pz_inj hx hy (((hI x hx).1.2.2.1 c hc h1).symm.trans ((hI y hy).1.2.2.1 c hc h2))
theorem pz_chtp (hI : pz_I f sv) {x c : Nat} (hx : x < 24) (hc : c < 24) (h : pz_ch f x c) : ¬ pz_tp f c := fun ht => ht x hx ((hI x hx).1.2.2.1 c hc h) h
end
/-- what the invariant at x looks at -/
theorem pz_Str_congr {f f' : pz_S} {sv sv' : pz_V} {x : Nat} (h : pz_Str f sv x) (e0 : f' 0 x = f 0 x) (e1 : f' 1 x = f 1 x) (e2 : pz_P (f' 2 x)) (e3 : f' 3 x = f 3 x) (e9 : f' 9 x = f 9 x) (e10 : f' 10 x = f 10 x) (e11 : f' 11 x = f 11 x)
    (ec : ∀ c, c < 24 → pz_ch f x c → f' 2 c = f 2 c ∧ sv' c = sv c) (es : sv' x = sv x) : pz_Str f' sv' x := by
  obtain ⟨⟨p0, p1, p2⟩, h1, h3, h4⟩ := h
  have s0 : pz_sc sv' (f' 0 x) = pz_sc sv (f 0 x) := by
    rw [e0]
    rcases p0 with e | ⟨j, hj, e⟩
    · rw [e, pz_sc_m, pz_sc_m]
    · rw [e, pz_sc_n hj, pz_sc_n hj]
      exact (ec j hj (Or.inl e)).2
  have s1 : pz_sc sv' (f' 1 x) = pz_sc sv (f 1 x) := by
    rw [e1]
    rcases p1 with e | ⟨j, hj, e⟩
    · rw [e, pz_sc_m, pz_sc_m]
    · rw [e, pz_sc_n hj, pz_sc_n hj]
      exact (ec j hj (Or.inr e)).2
  refine ⟨⟨by rw [e0]; exact p0, by rw [e1]; exact p1, e2⟩, ?_, ?_, ?_⟩
  · unfold pz_L1
    rw [es, s0, s1, e3, e9, e10, e11]
    exact h1
  · intro c hc hch
    have hch' : pz_ch f x c := by
      unfold pz_ch at hch ⊢
      rw [e0, e1] at hch
      exact hch
    rw [(ec c hc hch').1]
    exact h3 c hc hch'
  · unfold pz_L4
    rw [es]
    exact h4
theorem pz_L2_congr {f f' : pz_S} {sv sv' : pz_V} {x : Nat} (h : pz_L2 f sv x) (e4 : f' 4 x = f 4 x) (e5 : f' 5 x = f 5 x) (e6 : f' 6 x = f 6 x) (e7 : f' 7 x = f 7 x) (es : sv' x = sv x) (e8 : ∀ y ∈ pz_id (sv x), f' 8 y = f 8 y) : pz_L2 f' sv' x := by
  obtain ⟨a, b, c, d⟩ := h
  refine ⟨by rw [e4, es]; exact a, by rw [e5, es]; exact b, by rw [e6, es]; exact c, ?_⟩
  rw [e7, es, d]
  exact pz_sm_congr (fun q hq => by rw [e8 q.1 (pz_id_mem hq)])
end
section
/-! PLAIN 2: gather, handDown -/
def pz_PL (f : pz_S) (n : Nat) (L : List (Nat × Int32)) : Prop := f 4 n = nI L.length ∧ f 5 n = pz_sm Prod.snd L ∧ pz_ls (f 6 n) L ∧ f 7 n = pz_sm (fun q => q.2 + f 8 q.1) L
theorem pz_PL_congr {f f' : pz_S} {n : Nat} {L : List (Nat × Int32)} (h : pz_PL f n L) (e4 : f' 4 n = f 4 n) (e5 : f' 5 n = f 5 n) (e6 : f' 6 n = f 6 n) (e7 : f' 7 n = f 7 n) (e8 : ∀ y ∈ pz_id L, f' 8 y = f 8 y) : pz_PL f' n L := by
  obtain ⟨a, b, c, d⟩ := h
  refine ⟨by rw [e4]; exact a, by rw [e5]; exact b, by rw [e6]; exact c, ?_⟩
  rw [e7, d]
  exact pz_sm_congr (fun q hq => by rw [e8 q.1 (pz_id_mem hq)])
theorem pz_PL_perm {f : pz_S} {n : Nat} {L L' : List (Nat × Int32)} (h : pz_PL f n L) (hl : L'.length = L.length) (hs : ∀ w, pz_sm w L' = pz_sm w L) (hm : ∀ q, q ∈ L' ↔ q ∈ L) : pz_PL f n L' := by
  obtain ⟨a, b, c, d⟩ := h
  exact ⟨by rw [hl]; exact a, by rw [hs]; exact b, pz_ls_mem c hm, by rw [hs]; exact d⟩
def pz_gc (f : pz_S) (n : Nat) (c : Int32) : pz_S := if c < 0 then f else
  pz_fu (pz_fu (pz_fu (pz_fu f 4 n (f 4 n + f 4 c.toNatClampNeg)) 5 n (f 5 n + f 5 c.toNatClampNeg)) 6 n (if f 6 c.toNatClampNeg < f 6 n then f 6 c.toNatClampNeg else f 6 n)) 7 n (f 7 n + f 7 c.toNatClampNeg)
def pz_g0 (f : pz_S) (n : Nat) : pz_S := pz_fu (pz_fu (pz_fu (pz_fu f 4 n 1) 5 n (f 3 n)) 6 n (f 3 n)) 7 n (f 3 n + f 8 n)
def pz_gth (f : pz_S) (n : Nat) : pz_S := pz_gc (pz_gc (pz_g0 f n) n (f 0 n)) n (f 1 n)
theorem pz_gc_k {f : pz_S} {n k y : Nat} {c : Int32} (h4 : k ≠ 4) (h5 : k ≠ 5) (h6 : k ≠ 6) (h7 : k ≠ 7) : pz_gc f n c k y = f k y := by
  unfold pz_gc
  split
  · rfl
  · rw [pz_fu_k h7, pz_fu_k h6, pz_fu_k h5, pz_fu_k h4]
theorem pz_gc_i {f : pz_S} {n k y : Nat} {c : Int32} (h : y ≠ n) : pz_gc f n c k y = f k y := by
  unfold pz_gc
  split
  · rfl
  · rw [pz_fu_i h, pz_fu_i h, pz_fu_i h, pz_fu_i h]
theorem pz_g0_k {f : pz_S} {n k y : Nat} (h4 : k ≠ 4) (h5 : k ≠ 5) (h6 : k ≠ 6) (h7 : k ≠ 7) : pz_g0 f n k y = f k y := by
  unfold pz_g0
  rw [pz_fu_k h7, pz_fu_k h6, pz_fu_k h5, pz_fu_k h4]
theorem pz_g0_i {f : pz_S} {n k y : Nat} (h : y ≠ n) : pz_g0 f n k y = f k y := by
  unfold pz_g0
  rw [pz_fu_i h, pz_fu_i h, pz_fu_i h, pz_fu_i h]
theorem pz_gth_k {f : pz_S} {n k y : Nat} (h4 : k ≠ 4) (h5 : k ≠ 5) (h6 : k ≠ 6) (h7 : k ≠ 7) : pz_gth f n k y = f k y := by
  unfold pz_gth
  rw [pz_gc_k h4 h5 h6 h7, pz_gc_k h4 h5 h6 h7, pz_g0_k h4 h5 h6 h7]
theorem pz_gth_i {f : pz_S} {n k y : Nat} (h : y ≠ n) : pz_gth f n k y = f k y := by
  unfold pz_gth
  rw [pz_gc_i h, pz_gc_i h, pz_g0_i h]
theorem pz_gc_PL {f : pz_S} {n c : Nat} {L M : List (Nat × Int32)} (hc : c < 24) (h : pz_PL f n L) (h2 : pz_PL f c M) : pz_PL (pz_gc f n (nI c)) n (L ++ M) := by
  obtain ⟨a4, a5, a6, a7⟩ := h
  obtain ⟨b4, b5, b6, b7⟩ := h2
  have e : pz_gc f n (nI c) = pz_fu (pz_fu (pz_fu (pz_fu f 4 n (f 4 n + f 4 c)) 5 n (f 5 n + f 5 c)) 6 n (if f 6 c < f 6 n then f 6 c else f 6 n)) 7 n (f 7 n + f 7 c) := by
    unfold pz_gc
    rw [if_neg (pz_nlt hc), pz_cl hc]
  rw [e]
  refine ⟨?_, ?_, ?_, ?_⟩
  · rw [pz_fu_k (by decide), pz_fu_k (by decide), pz_fu_k (by decide), pz_fu_s, a4, b4, nI_add, List.length_append]
  · rw [pz_fu_k (by decide), pz_fu_k (by decide), pz_fu_s, a5, b5, pz_sm_app]
  · rw [pz_fu_k (by decide), pz_fu_s]
    obtain ⟨⟨q, hq, eq⟩, al⟩ := a6
    obtain ⟨⟨r, hr, er⟩, bl⟩ := b6
    split
    · rename_i hlt
      refine ⟨⟨r, List.mem_append_right _ hr, er⟩, fun z hz => ?_⟩
      rcases List.mem_append.mp hz with hz | hz
      · exact Int32.le_trans (Int32.le_of_lt hlt) (al z hz)
      · exact bl z hz
    · rename_i hlt
      refine ⟨⟨q, List.mem_append_left _ hq, eq⟩, fun z hz => ?_⟩
      rcases List.mem_append.mp hz with hz | hz
      · exact al z hz
      · exact Int32.le_trans (Int32.not_lt.mp hlt) (bl z hz)
  · rw [pz_fu_s, a7, b7, ← pz_sm_app]
    refine pz_sm_congr (fun q _ => ?_)
    rw [pz_fu_k (by decide), pz_fu_k (by decide), pz_fu_k (by decide), pz_fu_k (by decide)]
theorem pz_g0_PL {f : pz_S} {n : Nat} : pz_PL (pz_g0 f n) n [(n, f 3 n)] := by
  unfold pz_g0
  refine ⟨?_, ?_, ?_, ?_⟩
  · rw [pz_fu_k (by decide), pz_fu_k (by decide), pz_fu_k (by decide), pz_fu_s]
    rfl
  · rw [pz_fu_k (by decide), pz_fu_k (by decide), pz_fu_s]
    simp [pz_sm]
  · rw [pz_fu_k (by decide), pz_fu_s]
    refine ⟨⟨_, List.mem_singleton.mpr rfl, rfl⟩, fun q hq => ?_⟩
    rw [List.mem_singleton.mp hq]
    exact Int32.le_refl _
  · rw [pz_fu_s]
    simp only [pz_sm]
    rw [pz_fu_k (by decide), pz_fu_k (by decide), pz_fu_k (by decide), pz_fu_k (by decide)]
    simp
/-- gather works out size, sum, least, whole of n from its children -/
theorem pz_gth_L2 {f : pz_S} {sv : pz_V} {n : Nat} (hS : pz_Str f sv n) (h9 : f 9 n = 0) (h10 : f 10 n = 0) (hc : ∀ c, c < 24 → pz_ch f n c → c ≠ n ∧ pz_L2 f sv c) : pz_L2 (pz_gth f n) sv n := by
  obtain ⟨⟨p0, p1, -⟩, h1, -, -⟩ := hS
  have hsv := pz_clean h1 h9 h10
  have k0 : pz_PL (pz_gc (pz_g0 f n) n (f 0 n)) n ([(n, f 3 n)] ++ pz_sc sv (f 0 n)) := by
    rcases p0 with e | ⟨j, hj, e⟩
    · rw [e, pz_sc_m, List.append_nil]
      have : pz_gc (pz_g0 f n) n (-1) = pz_g0 f n := if_pos pz_m1
      rw [this]
      exact pz_g0_PL
    · obtain ⟨hne, hL⟩ := hc j hj (Or.inl e)
      rw [e, pz_sc_n hj]
      exact pz_gc_PL hj pz_g0_PL (pz_PL_congr (f := f) hL (pz_g0_i hne) (pz_g0_i hne) (pz_g0_i hne) (pz_g0_i hne) (fun y _ => pz_g0_k (by decide) (by decide) (by decide) (by decide)))
  have k1 : pz_PL (pz_gth f n) n (([(n, f 3 n)] ++ pz_sc sv (f 0 n)) ++ pz_sc sv (f 1 n)) := by
    unfold pz_gth
    rcases p1 with e | ⟨j, hj, e⟩
    · rw [e, pz_sc_m, List.append_nil]
      have : pz_gc (pz_gc (pz_g0 f n) n (f 0 n)) n (-1) = pz_gc (pz_g0 f n) n (f 0 n) := if_pos pz_m1
      rw [this]
      exact k0
    · obtain ⟨hne, hL⟩ := hc j hj (Or.inr e)
      rw [e, pz_sc_n hj]
      refine pz_gc_PL hj k0 (pz_PL_congr (f := f) hL ?_ ?_ ?_ ?_ (fun y _ => ?_))
      · rw [pz_gc_i hne, pz_g0_i hne]
      · rw [pz_gc_i hne, pz_g0_i hne]
      · rw [pz_gc_i hne, pz_g0_i hne]
      · rw [pz_gc_i hne, pz_g0_i hne]
      · rw [pz_gc_k (by decide) (by decide) (by decide) (by decide), pz_g0_k (by decide) (by decide) (by decide) (by decide)]
  show pz_PL (pz_gth f n) n (sv n)
  rw [hsv]
  refine pz_PL_perm k1 ?_ (fun w => ?_) (fun q => ?_)
  · simp only [List.length_append, List.length_cons, List.length_nil]
    omega
  · rw [pz_sm_app, pz_sm_app, pz_sm_app]
    simp only [pz_sm]
    grind
  · simp only [List.mem_append, List.mem_cons, List.not_mem_nil, or_false]
    constructor
    · rintro (h | h | h)
      · exact Or.inl (Or.inr h)
      · exact Or.inl (Or.inl h)
      · exact Or.inr h
    · rintro ((h | h) | h)
      · exact Or.inr (Or.inl h)
      · exact Or.inl h
      · exact Or.inr (Or.inr h)
/-- what gather leaves alone -/
theorem pz_gth_Str {f : pz_S} {sv : pz_V} {n x : Nat} (h : pz_Str f sv x) : pz_Str (pz_gth f n) sv x := by
  have e : ∀ k y, k ≠ 4 → k ≠ 5 → k ≠ 6 → k ≠ 7 → pz_gth f n k y = f k y := fun k y a b c d => pz_gth_k a b c d
  refine pz_Str_congr h (e 0 x (by decide) (by decide) (by decide) (by decide)) (e 1 x (by decide) (by decide) (by decide) (by decide)) ?_ (e 3 x (by decide) (by decide) (by decide) (by decide)) (e 9 x (by decide) (by decide) (by decide) (by decide)) (e 10 x (by decide) (by decide) (by decide) (by decide)) (e 11 x (by decide) (by decide) (by decide) (by decide)) (fun c _ _ => ⟨e 2 c (by decide) (by decide) (by decide) (by decide), rfl⟩) rfl
  rw [e 2 x (by decide) (by decide) (by decide) (by decide)]
  exact h.1.2.2
theorem pz_gth_L2' {f : pz_S} {sv : pz_V} {n x : Nat} (hx : x ≠ n) (h : pz_L2 f sv x) : pz_L2 (pz_gth f n) sv x :=
  pz_L2_congr h (pz_gth_i hx) (pz_gth_i hx) (pz_gth_i hx) (pz_gth_i hx) rfl (fun _ _ => pz_gth_k (by decide) (by decide) (by decide) (by decide))
/-! handDown -/
def pz_tg (b : Int32) : Int32 := if b = 0 then 1 else 0
def pz_tn (f : pz_S) (c : Int32) : pz_S := if c < 0 then f else pz_fu f 9 c.toNatClampNeg (pz_tg (f 9 c.toNatClampNeg))
def pz_hT (f : pz_S) (n : Nat) : pz_S := if f 9 n = 0 then f else pz_fu (pz_tn (pz_tn (pz_fu (pz_fu f 0 n (f 1 n)) 1 n (f 0 n)) (f 1 n)) (f 0 n)) 9 n 0
def pz_pp (f : pz_S) (i : Nat) (v : Int32) : pz_S := pz_fu (pz_fu (pz_fu (pz_fu (pz_fu (pz_fu f 7 i (f 7 i + (f 4 i * v - f 5 i))) 5 i (f 4 i * v)) 6 i v) 3 i v) 10 i 1) 11 i v
def pz_pc (f : pz_S) (c v : Int32) : pz_S := if c < 0 then f else pz_pp f c.toNatClampNeg v
def pz_hP (f : pz_S) (n : Nat) : pz_S := if f 10 n = 0 then f else pz_fu (pz_pc (pz_pc f (f 0 n) (f 11 n)) (f 1 n) (f 11 n)) 10 n 0
def pz_hd (f : pz_S) (n : Nat) : pz_S := pz_hP (pz_hT f n) n
theorem pz_tn_k {f : pz_S} {c : Int32} {k y : Nat} (h : k ≠ 9) : pz_tn f c k y = f k y := by
  unfold pz_tn
  split
  · rfl
  · exact pz_fu_k h
theorem pz_tn_o {f : pz_S} {c : Int32} {y : Nat} (hc : pz_P c) (h : c ≠ nI y) : pz_tn f c 9 y = f 9 y := by
  rcases hc with e | ⟨j, hj, e⟩
  · rw [e]
    unfold pz_tn
    rw [if_pos pz_m1]
  · subst e
    unfold pz_tn
    rw [if_neg (pz_nlt hj), pz_cl hj]
    exact pz_fu_i (fun z => h (by rw [z]))
theorem pz_tn_s {f : pz_S} {y : Nat} (hy : y < 24) : pz_tn f (nI y) 9 y = pz_tg (f 9 y) := by
  unfold pz_tn
  rw [if_neg (pz_nlt hy), pz_cl hy]
  exact pz_fu_s
theorem pz_pp_k {f : pz_S} {i k y : Nat} {v : Int32} (h3 : k ≠ 3) (h5 : k ≠ 5) (h6 : k ≠ 6) (h7 : k ≠ 7) (h10 : k ≠ 10) (h11 : k ≠ 11) : pz_pp f i v k y = f k y := by
  unfold pz_pp
  rw [pz_fu_k h11, pz_fu_k h10, pz_fu_k h3, pz_fu_k h6, pz_fu_k h5, pz_fu_k h7]
theorem pz_pp_i {f : pz_S} {i k y : Nat} {v : Int32} (h : y ≠ i) : pz_pp f i v k y = f k y := by
  unfold pz_pp
  rw [pz_fu_i h, pz_fu_i h, pz_fu_i h, pz_fu_i h, pz_fu_i h, pz_fu_i h]
theorem pz_pc_k {f : pz_S} {c v : Int32} {k y : Nat} (h3 : k ≠ 3) (h5 : k ≠ 5) (h6 : k ≠ 6) (h7 : k ≠ 7) (h10 : k ≠ 10) (h11 : k ≠ 11) : pz_pc f c v k y = f k y := by
  unfold pz_pc
  split
  · rfl
  · exact pz_pp_k h3 h5 h6 h7 h10 h11
theorem pz_pc_o {f : pz_S} {c v : Int32} {k y : Nat} (hc : pz_P c) (h : c ≠ nI y) : pz_pc f c v k y = f k y := by
  rcases hc with e | ⟨j, hj, e⟩
  · rw [e]
    unfold pz_pc
    rw [if_pos pz_m1]
  · subst e
    unfold pz_pc
    rw [if_neg (pz_nlt hj), pz_cl hj]
    exact pz_pp_i (fun z => h (by rw [z]))
theorem pz_pc_s {f : pz_S} {y : Nat} {v : Int32} (hy : y < 24) : pz_pc f (nI y) v = pz_pp f y v := by
  unfold pz_pc
  rw [if_neg (pz_nlt hy), pz_cl hy]
/-- f' comes out of f by handing something down from n -/
def pz_HR (f : pz_S) (sv : pz_V) (f' : pz_S) (sv' : pz_V) (n : Nat) : Prop :=
  pz_I f' sv' ∧ (∀ y z, z ∈ pz_id (sv' y) ↔ z ∈ pz_id (sv y)) ∧ (∀ y, (sv' y).length = (sv y).length) ∧ (∀ y, f' 2 y = f 2 y) ∧ (∀ x c, pz_ch f' x c ↔ pz_ch f x c) ∧ (∀ y, y < 24 → (pz_tp f y ∨ y = n) → sv' y = sv y) ∧ (∀ y, f' 8 y = f 8 y) ∧ (∀ y, f' 12 y = f 12 y) ∧ ∀ y, y < 24 → (sv n).length < (sv y).length → f' 9 y = f 9 y ∧ f' 10 y = f 10 y
theorem pz_tp_congr {f f' : pz_S} (h2 : ∀ y, f' 2 y = f 2 y) (hc : ∀ x c, pz_ch f' x c ↔ pz_ch f x c) (y : Nat) : pz_tp f' y ↔ pz_tp f y := by
  constructor
  · intro h p hp e hh
    exact h p hp (by rw [h2]; exact e) ((hc p y).mpr hh)
  · intro h p hp e hh
    exact h p hp (by rw [h2] at e; exact e) ((hc p y).mp hh)
theorem pz_HR_rf {f : pz_S} {sv : pz_V} {n : Nat} (hI : pz_I f sv) : pz_HR f sv f sv n := ⟨hI, fun _ _ => Iff.rfl, fun _ => rfl, fun _ => rfl, fun _ _ => Iff.rfl, fun _ _ _ => rfl, fun _ => rfl, fun _ => rfl, fun _ _ _ => ⟨rfl, rfl⟩⟩
theorem pz_HR_tr {f f1 f2 : pz_S} {sv sv1 sv2 : pz_V} {n : Nat} (h1 : pz_HR f sv f1 sv1 n) (h2 : pz_HR f1 sv1 f2 sv2 n) : pz_HR f sv f2 sv2 n := by
  obtain ⟨a1, a2, a3, a4, a5, a6, a7, a8, a9⟩ := h1
  obtain ⟨b1, b2, b3, b4, b5, b6, b7, b8, b9⟩ := h2
  refine ⟨b1, fun y z => (b2 y z).trans (a2 y z), fun y => (b3 y).trans (a3 y), fun y => (b4 y).trans (a4 y), fun x c => (b5 x c).trans (a5 x c), fun y hy ht => ?_, fun y => (b7 y).trans (a7 y), fun y => (b8 y).trans (a8 y), fun y hy hl => ?_⟩
  · rw [b6 y hy (ht.imp (fun t => (pz_tp_congr a4 a5 y).mpr t) id), a6 y hy ht]
  · have h3 := b9 y hy (by rw [a3, a3]; exact hl)
    have h4 := a9 y hy hl
    exact ⟨h3.1.trans h4.1, h3.2.trans h4.2⟩
theorem pz_sc_congr {sv sv' : pz_V} {c : Int32} (hc : pz_P c) (h : ∀ j, j < 24 → c = nI j → sv' j = sv j) : pz_sc sv' c = pz_sc sv c := by
  rcases hc with e | ⟨j, hj, e⟩
  · rw [e, pz_sc_m, pz_sc_m]
  · have := h j hj e
    subst e
    rw [pz_sc_n hj, pz_sc_n hj, this]
theorem pz_rv_tg (b : Int32) (l : List (Nat × Int32)) : pz_rv (pz_tg b) l = (pz_rv b l).reverse := by
  unfold pz_rv pz_tg
  by_cases h : b = 0
  · rw [if_pos h, if_pos h, if_neg (by decide)]
  · rw [if_neg h, if_neg h, if_pos rfl, List.reverse_reverse]
set_option maxHeartbeats 2000000 in
theorem pz_hT_ok {f : pz_S} {sv : pz_V} {n : Nat} (hI : pz_I f sv) (hn : n < 24) : ∃ sv', pz_HR f sv (pz_hT f n) sv' n ∧ pz_hT f n 9 n = 0 := by
  by_cases h9 : f 9 n = 0
  · have e : pz_hT f n = f := if_pos h9
    rw [e]
    exact ⟨sv, pz_HR_rf hI, h9⟩
  have e : pz_hT f n = pz_fu (pz_tn (pz_tn (pz_fu (pz_fu f 0 n (f 1 n)) 1 n (f 0 n)) (f 1 n)) (f 0 n)) 9 n 0 := if_neg h9
  obtain ⟨⟨⟨P0, P1, P2⟩, hL1, hL3, hL4⟩, hL2⟩ := hI n hn
  have nn : ¬ pz_ch f n n := fun h => pz_chne hI hn hn h rfl
  have A : ∀ k y, k ≠ 0 → k ≠ 1 → k ≠ 9 → pz_hT f n k y = f k y := by
    intro k y a0 a1 a9
    rw [e, pz_fu_k a9, pz_tn_k a9, pz_tn_k a9, pz_fu_k a1, pz_fu_k a0]
  have B : ∀ k y, k ≠ 9 → y ≠ n → pz_hT f n k y = f k y := by
    intro k y a9 ay
    rw [e, pz_fu_k a9, pz_tn_k a9, pz_tn_k a9, pz_fu_i ay, pz_fu_i ay]
  have C0 : pz_hT f n 0 n = f 1 n := by
    rw [e, pz_fu_k (by decide), pz_tn_k (by decide), pz_tn_k (by decide), pz_fu_k (by decide), pz_fu_s]
  have C1 : pz_hT f n 1 n = f 0 n := by
    rw [e, pz_fu_k (by decide), pz_tn_k (by decide), pz_tn_k (by decide), pz_fu_s]
  have C9 : pz_hT f n 9 n = 0 := by
    rw [e, pz_fu_s]
  have D : ∀ c, c < 24 → pz_ch f n c → pz_hT f n 9 c = pz_tg (f 9 c) := by
    intro c hc hch
    have hcn := pz_chne hI hn hc hch
    rw [e, pz_fu_i hcn]
    rcases hch with h | h
    · rw [h, pz_tn_s hc, pz_tn_o P1 ?_, pz_fu_k (by decide), pz_fu_k (by decide)]
      intro z
      exact pz_lr hI hn hc hc h z rfl
    · rw [pz_tn_o P0 ?_, h, pz_tn_s hc, pz_fu_k (by decide), pz_fu_k (by decide)]
      intro z
      exact pz_lr hI hn hc hc z h rfl
  have E : ∀ y, y ≠ n → ¬ pz_ch f n y → pz_hT f n 9 y = f 9 y := by
    intro y hy hch
    rw [e, pz_fu_i hy, pz_tn_o P0 (fun z => hch (Or.inl z)), pz_tn_o P1 (fun z => hch (Or.inr z)), pz_fu_k (by decide), pz_fu_k (by decide)]
  generalize pz_hT f n = f' at A B C0 C1 C9 D E
  have hch : ∀ x c, pz_ch f' x c ↔ pz_ch f x c := by
    intro x c
    unfold pz_ch
    by_cases hx : x = n
    · subst hx
      rw [C0, C1]
      exact Or.comm
    · rw [B 0 x (by decide) hx, B 1 x (by decide) hx]
  obtain ⟨sv', hsv⟩ : ∃ sv' : pz_V, sv' = fun y => if pz_ch f n y then (sv y).reverse else sv y := ⟨_, rfl⟩
  have s1 : ∀ y, pz_ch f n y → sv' y = (sv y).reverse := fun y h => by rw [hsv]; exact if_pos h
  have s0 : ∀ y, ¬ pz_ch f n y → sv' y = sv y := fun y h => by rw [hsv]; exact if_neg h
  have sy : ∀ y, y < 24 → y ≠ n → ∀ c, c < 24 → pz_ch f y c → sv' c = sv c := fun y hy hyn c hc h => s0 c (fun h2 => hyn (pz_par hI hy hn hc h h2))
  refine ⟨sv', ⟨?_, ?_, ?_, fun y => A 2 y (by decide) (by decide) (by decide), hch, ?_, fun y => A 8 y (by decide) (by decide) (by decide), fun y => A 12 y (by decide) (by decide) (by decide), ?_⟩, C9⟩
  · intro y hy
    by_cases hyn : y = n
    · subst hyn
      have sr : ∀ c, pz_P c → (∀ j, j < 24 → c = nI j → pz_ch f y j) → pz_sc sv' c = (pz_sc sv c).reverse := by
        intro c hc hh
        rcases hc with e | ⟨j, hj, e⟩
        · rw [e, pz_sc_m, pz_sc_m]
          rfl
        · have := s1 j (hh j hj e)
          subst e
          rw [pz_sc_n hj, pz_sc_n hj, this]
      refine ⟨⟨⟨by rw [C0]; exact P1, by rw [C1]; exact P0, by rw [A 2 y (by decide) (by decide) (by decide)]; exact P2⟩, ?_, ?_, ?_⟩, ?_⟩
      · unfold pz_L1
        rw [C9, pz_rv_0, C0, C1, A 10 y (by decide) (by decide) (by decide), A 11 y (by decide) (by decide) (by decide), A 3 y (by decide) (by decide) (by decide), s0 y nn, sr _ P1 (fun j _ z => Or.inr z), sr _ P0 (fun j _ z => Or.inl z), pz_pt_rev, pz_pt_rev]
        have h1 : sv y = (pz_pt (f 10 y) (f 11 y) (pz_sc sv (f 0 y)) ++ (y, f 3 y) :: pz_pt (f 10 y) (f 11 y) (pz_sc sv (f 1 y))).reverse := by
          unfold pz_L1 pz_rv at hL1
          rw [if_neg h9] at hL1
          exact hL1
        rw [h1, List.reverse_append, List.reverse_cons, List.append_assoc]
        rfl
      · intro c hc h
        rw [A 2 c (by decide) (by decide) (by decide)]
        exact hL3 c hc ((hch y c).mp h)
      · unfold pz_L4
        rw [s0 y nn]
        exact hL4
      · exact pz_L2_congr hL2 (A 4 y (by decide) (by decide) (by decide)) (A 5 y (by decide) (by decide) (by decide)) (A 6 y (by decide) (by decide) (by decide)) (A 7 y (by decide) (by decide) (by decide)) (s0 y nn) (fun z _ => A 8 z (by decide) (by decide) (by decide))
    · obtain ⟨hS, hT⟩ := hI y hy
      have hS' := hS
      obtain ⟨⟨Q0, Q1, Q2⟩, q1, q3, q4⟩ := hS'
      by_cases hc : pz_ch f n y
      · refine ⟨⟨⟨by rw [B 0 y (by decide) hyn]; exact Q0, by rw [B 1 y (by decide) hyn]; exact Q1, by rw [B 2 y (by decide) hyn]; exact Q2⟩, ?_, ?_, ?_⟩, ?_⟩
        · unfold pz_L1
          rw [s1 y hc, D y hy hc, B 0 y (by decide) hyn, B 1 y (by decide) hyn, B 3 y (by decide) hyn, B 10 y (by decide) hyn, B 11 y (by decide) hyn, pz_sc_congr Q0 (fun j hj z => sy y hy hyn j hj (Or.inl z)), pz_sc_congr Q1 (fun j hj z => sy y hy hyn j hj (Or.inr z)), pz_rv_tg]
          unfold pz_L1 at q1
          rw [← q1]
        · intro c hcl h
          rw [A 2 c (by decide) (by decide) (by decide)]
          exact q3 c hcl ((hch y c).mp h)
        · unfold pz_L4
          rw [s1 y hc, pz_id_rev]
          exact ⟨pz_nd_rev q4.1, fun z hz => q4.2 z (List.mem_reverse.mp hz)⟩
        · have hT1 : pz_PL f' y (sv y) := pz_PL_congr (f := f) hT (B 4 y (by decide) hyn) (B 5 y (by decide) hyn) (B 6 y (by decide) hyn) (B 7 y (by decide) hyn) (fun z _ => A 8 z (by decide) (by decide) (by decide))
          show pz_PL f' y (sv' y)
          rw [s1 y hc]
          exact pz_PL_perm hT1 List.length_reverse (fun w => pz_sm_rev w _) (fun q => List.mem_reverse)
      · refine ⟨pz_Str_congr hS (B 0 y (by decide) hyn) (B 1 y (by decide) hyn) (by rw [B 2 y (by decide) hyn]; exact Q2) (B 3 y (by decide) hyn) (E y hyn hc) (B 10 y (by decide) hyn) (B 11 y (by decide) hyn) (fun c hcl h => ⟨A 2 c (by decide) (by decide) (by decide), sy y hy hyn c hcl h⟩) (s0 y hc), ?_⟩
        exact pz_L2_congr hT (B 4 y (by decide) hyn) (B 5 y (by decide) hyn) (B 6 y (by decide) hyn) (B 7 y (by decide) hyn) (s0 y hc) (fun z _ => A 8 z (by decide) (by decide) (by decide))
  · intro y z
    by_cases hc : pz_ch f n y
    · rw [s1 y hc, pz_id_rev]
      exact List.mem_reverse
    · rw [s0 y hc]
  · intro y
    by_cases hc : pz_ch f n y
    · rw [s1 y hc]
      exact List.length_reverse
    · rw [s0 y hc]
  · intro y hy ht
    refine s0 y (fun hc => ?_)
    rcases ht with ht | ht
    · exact pz_chtp hI hn hy hc ht
    · subst ht
      exact nn hc
  · intro y hy hl
    have hyn : y ≠ n := fun z => by subst z; exact Nat.lt_irrefl _ hl
    have hc : ¬ pz_ch f n y := fun hc => by
      have := (pz_ch_sub hI hn hy hc).1
      omega
    exact ⟨E y hyn hc, B 10 y (by decide) hyn⟩
end
section
/-! PLAIN 3: painting handed down; rotate -/
theorem pz_pa_rv {b c : Int32} {l : List (Nat × Int32)} : pz_pa c (pz_rv b l) = pz_rv b (pz_pa c l) := by
  unfold pz_rv pz_pa
  split
  · rfl
  · exact List.map_reverse
theorem pz_pa_pt {b c d : Int32} {l : List (Nat × Int32)} : pz_pa c (pz_pt b d l) = pz_pa c l := by
  unfold pz_pt
  split
  · rfl
  · exact pz_pa_pa c d l
theorem pz_pa_app {c : Int32} {a b : List (Nat × Int32)} : pz_pa c (a ++ b) = pz_pa c a ++ pz_pa c b := List.map_append
/-- painting a part whole -/
theorem pz_pp_PL {f : pz_S} {i : Nat} {v : Int32} {L : List (Nat × Int32)} (h : pz_PL f i L) (hne : L ≠ []) : pz_PL (pz_pp f i v) i (pz_pa v L) := by
  obtain ⟨a, b, c, d⟩ := h
  unfold pz_pp
  refine ⟨?_, ?_, ?_, ?_⟩
  · rw [pz_fu_k (by decide), pz_fu_k (by decide), pz_fu_k (by decide), pz_fu_k (by decide), pz_fu_k (by decide), pz_fu_k (by decide), pz_pa_len]
    exact a
  · rw [pz_fu_k (by decide), pz_fu_k (by decide), pz_fu_k (by decide), pz_fu_k (by decide), pz_fu_s, a]
    unfold pz_pa
    rw [pz_sm_map]
    exact (pz_sm_const v L).symm
  · rw [pz_fu_k (by decide), pz_fu_k (by decide), pz_fu_k (by decide), pz_fu_s]
    constructor
    · cases L with
      | nil => exact absurd rfl hne
      | cons q L => exact ⟨(q.1, v), List.mem_cons_self, rfl⟩
    · intro q hq
      obtain ⟨r, -, e⟩ := List.mem_map.mp hq
      rw [← e]
      exact Int32.le_refl _
  · rw [pz_fu_k (by decide), pz_fu_k (by decide), pz_fu_k (by decide), pz_fu_k (by decide), pz_fu_k (by decide), pz_fu_s]
    have e8 : ∀ y, (pz_fu (pz_fu (pz_fu (pz_fu (pz_fu (pz_fu f 7 i (f 7 i + (f 4 i * v - f 5 i))) 5 i (f 4 i * v)) 6 i v) 3 i v) 10 i 1) 11 i v) 8 y = f 8 y := fun y => by
      rw [pz_fu_k (by decide), pz_fu_k (by decide), pz_fu_k (by decide), pz_fu_k (by decide), pz_fu_k (by decide), pz_fu_k (by decide)]
    unfold pz_pa
    rw [pz_sm_map]
    have e1 : pz_sm (fun q : Nat × Int32 => v + f 8 q.1) L = nI L.length * v + pz_sm (fun q => f 8 q.1) L := by
      rw [← pz_sm_const v L]
      exact pz_sm_add (fun _ => v) (fun q => f 8 q.1) L
    have e2 : pz_sm (fun q : Nat × Int32 => q.2 + f 8 q.1) L = pz_sm Prod.snd L + pz_sm (fun q => f 8 q.1) L := pz_sm_add Prod.snd (fun q => f 8 q.1) L
    rw [pz_sm_congr (w' := fun q => v + f 8 q.1) (fun q _ => by rw [e8]), e1, a, b, d, e2]
    grind
theorem pz_pp_v {f : pz_S} {i : Nat} {v : Int32} : pz_pp f i v 3 i = v ∧ pz_pp f i v 10 i = 1 ∧ pz_pp f i v 11 i = v := by
  unfold pz_pp
  refine ⟨?_, ?_, ?_⟩
  · rw [pz_fu_k (by decide), pz_fu_k (by decide), pz_fu_s]
  · rw [pz_fu_k (by decide), pz_fu_s]
  · rw [pz_fu_s]
set_option maxHeartbeats 2000000 in
theorem pz_hP_ok {f : pz_S} {sv : pz_V} {n : Nat} (hI : pz_I f sv) (hn : n < 24) : ∃ sv', pz_HR f sv (pz_hP f n) sv' n ∧ pz_hP f n 10 n = 0 ∧ pz_hP f n 9 n = f 9 n := by
  by_cases h10 : f 10 n = 0
  · have e : pz_hP f n = f := if_pos h10
    rw [e]
    exact ⟨sv, pz_HR_rf hI, h10, rfl⟩
  have e : pz_hP f n = pz_fu (pz_pc (pz_pc f (f 0 n) (f 11 n)) (f 1 n) (f 11 n)) 10 n 0 := if_neg h10
  obtain ⟨⟨⟨P0, P1, P2⟩, hL1, hL3, hL4⟩, hL2⟩ := hI n hn
  have nn : ¬ pz_ch f n n := fun h => pz_chne hI hn hn h rfl
  obtain ⟨v, hv⟩ : ∃ v, v = f 11 n := ⟨_, rfl⟩
  have A : ∀ k y, k ≠ 3 → k ≠ 5 → k ≠ 6 → k ≠ 7 → k ≠ 10 → k ≠ 11 → pz_hP f n k y = f k y := by
    intro k y a3 a5 a6 a7 a10 a11
    rw [e, pz_fu_k a10, pz_pc_k a3 a5 a6 a7 a10 a11, pz_pc_k a3 a5 a6 a7 a10 a11]
  have B : ∀ k y, y ≠ n → ¬ pz_ch f n y → pz_hP f n k y = f k y := by
    intro k y hy hc
    rw [e, pz_fu_i hy, pz_pc_o P1 (fun z => hc (Or.inr z)), pz_pc_o P0 (fun z => hc (Or.inl z))]
  have C : ∀ k, k ≠ 10 → pz_hP f n k n = f k n := by
    intro k hk
    rw [e, pz_fu_k hk, pz_pc_o P1 (fun z => nn (Or.inr z)), pz_pc_o P0 (fun z => nn (Or.inl z))]
  have C10 : pz_hP f n 10 n = 0 := by rw [e, pz_fu_s]
  have D : ∀ c, c < 24 → pz_ch f n c → ∀ k, pz_hP f n k c = pz_pp f c v k c := by
    intro c hc hch k
    have hcn := pz_chne hI hn hc hch
    rw [e, pz_fu_i hcn, ← hv]
    rcases hch with h | h
    · have h1 : f 1 n ≠ nI c := fun z => pz_lr hI hn hc hc h z rfl
      rw [pz_pc_o P1 h1, h, pz_pc_s hc]
    · have h0 : f 0 n ≠ nI c := fun z => pz_lr hI hn hc hc z h rfl
      rw [h, pz_pc_s hc]
      have hk : ∀ k, pz_pc f (f 0 n) v k c = f k c := fun k => pz_pc_o P0 h0
      unfold pz_pp
      simp only [hk, pz_fu, and_true]
  generalize pz_hP f n = f' at A B C C10 D
  have hch : ∀ x c, pz_ch f' x c ↔ pz_ch f x c := by
    intro x c
    unfold pz_ch
    rw [A 0 x (by decide) (by decide) (by decide) (by decide) (by decide) (by decide), A 1 x (by decide) (by decide) (by decide) (by decide) (by decide) (by decide)]
  obtain ⟨sv', hsv⟩ : ∃ sv' : pz_V, sv' = fun y => if pz_ch f n y then pz_pa v (sv y) else sv y := ⟨_, rfl⟩
  have s1 : ∀ y, pz_ch f n y → sv' y = pz_pa v (sv y) := fun y h => by rw [hsv]; exact if_pos h
  have s0 : ∀ y, ¬ pz_ch f n y → sv' y = sv y := fun y h => by rw [hsv]; exact if_neg h
  have sy : ∀ y, y < 24 → y ≠ n → ∀ c, c < 24 → pz_ch f y c → sv' c = sv c := fun y hy hyn c hc h => s0 c (fun h2 => hyn (pz_par hI hy hn hc h h2))
  have A0 : ∀ y, f' 0 y = f 0 y := fun y => A 0 y (by decide) (by decide) (by decide) (by decide) (by decide) (by decide)
  have A1 : ∀ y, f' 1 y = f 1 y := fun y => A 1 y (by decide) (by decide) (by decide) (by decide) (by decide) (by decide)
  have A2 : ∀ y, f' 2 y = f 2 y := fun y => A 2 y (by decide) (by decide) (by decide) (by decide) (by decide) (by decide)
  have A4 : ∀ y, f' 4 y = f 4 y := fun y => A 4 y (by decide) (by decide) (by decide) (by decide) (by decide) (by decide)
  have A8 : ∀ y, f' 8 y = f 8 y := fun y => A 8 y (by decide) (by decide) (by decide) (by decide) (by decide) (by decide)
  have A9 : ∀ y, f' 9 y = f 9 y := fun y => A 9 y (by decide) (by decide) (by decide) (by decide) (by decide) (by decide)
  have A12 : ∀ y, f' 12 y = f 12 y := fun y => A 12 y (by decide) (by decide) (by decide) (by decide) (by decide) (by decide)
  refine ⟨sv', ⟨?_, ?_, ?_, A2, hch, ?_, A8, A12, ?_⟩, C10, A9 n⟩
  · intro y hy
    by_cases hyn : y = n
    · subst hyn
      have sr : ∀ c, pz_P c → (∀ j, j < 24 → c = nI j → pz_ch f y j) → pz_sc sv' c = pz_pa v (pz_sc sv c) := by
        intro c hc hh
        rcases hc with e | ⟨j, hj, e⟩
        · rw [e, pz_sc_m, pz_sc_m]
          rfl
        · have := s1 j (hh j hj e)
          subst e
          rw [pz_sc_n hj, pz_sc_n hj, this]
      refine ⟨⟨⟨by rw [A0]; exact P0, by rw [A1]; exact P1, by rw [A2]; exact P2⟩, ?_, ?_, ?_⟩, ?_⟩
      · unfold pz_L1
        rw [C10, A9, A0, A1, C 3 (by decide), pz_pt_0, pz_pt_0, s0 y nn, sr _ P0 (fun j _ z => Or.inl z), sr _ P1 (fun j _ z => Or.inr z)]
        unfold pz_L1 at hL1
        unfold pz_pt at hL1
        rw [if_neg h10, if_neg h10, ← hv] at hL1
        exact hL1
      · intro c hc h
        rw [A2]
        exact hL3 c hc ((hch y c).mp h)
      · unfold pz_L4
        rw [s0 y nn]
        exact hL4
      · exact pz_L2_congr hL2 (A4 y) (C 5 (by decide)) (C 6 (by decide)) (C 7 (by decide)) (s0 y nn) (fun z _ => A8 z)
    · obtain ⟨hS, hT⟩ := hI y hy
      have hS' := hS
      obtain ⟨⟨Q0, Q1, Q2⟩, q1, q3, q4⟩ := hS'
      by_cases hc : pz_ch f n y
      · have hD := D y hy hc
        obtain ⟨v3, v10, v11⟩ := pz_pp_v (f := f) (i := y) (v := v)
        refine ⟨⟨⟨by rw [A0]; exact Q0, by rw [A1]; exact Q1, by rw [A2]; exact Q2⟩, ?_, ?_, ?_⟩, ?_⟩
        · unfold pz_L1
          rw [s1 y hc, A9, hD 10, hD 11, hD 3, v3, v10, v11, A0, A1, pz_sc_congr Q0 (fun j hj z => sy y hy hyn j hj (Or.inl z)), pz_sc_congr Q1 (fun j hj z => sy y hy hyn j hj (Or.inr z))]
          unfold pz_L1 at q1
          rw [q1, pz_pa_rv, pz_pa_app]
          have pc : ∀ l, pz_pt 1 v l = pz_pa v l := fun l => if_neg (by decide)
          rw [pc, pc]
          have e9 : pz_pa v ((y, f 3 y) :: pz_pt (f 10 y) (f 11 y) (pz_sc sv (f 1 y))) = (y, v) :: pz_pa v (pz_pt (f 10 y) (f 11 y) (pz_sc sv (f 1 y))) := rfl
          rw [e9, pz_pa_pt, pz_pa_pt]
        · intro c hcl h
          rw [A2]
          exact q3 c hcl ((hch y c).mp h)
        · unfold pz_L4
          rw [s1 y hc, pz_id_pa]
          exact q4
        · have h1 : pz_PL (pz_pp f y v) y (pz_pa v (sv y)) := pz_pp_PL hT (fun z => by
            have := pz_ne hI hy
            rw [z, List.length_nil] at this
            omega)
          show pz_PL f' y (sv' y)
          rw [s1 y hc]
          exact pz_PL_congr h1 (hD 4) (hD 5) (hD 6) (hD 7) (fun z _ => by rw [A8, pz_pp_k (by decide) (by decide) (by decide) (by decide) (by decide) (by decide)])
      · refine ⟨pz_Str_congr hS (A0 y) (A1 y) (by rw [A2]; exact Q2) (B 3 y hyn hc) (A9 y) (B 10 y hyn hc) (B 11 y hyn hc) (fun c hcl h => ⟨A2 c, sy y hy hyn c hcl h⟩) (s0 y hc), ?_⟩
        exact pz_L2_congr hT (A4 y) (B 5 y hyn hc) (B 6 y hyn hc) (B 7 y hyn hc) (s0 y hc) (fun z _ => A8 z)
  · intro y z
    by_cases hc : pz_ch f n y
    · rw [s1 y hc, pz_id_pa]
    · rw [s0 y hc]
  · intro y
    by_cases hc : pz_ch f n y
    · rw [s1 y hc]
      exact pz_pa_len v _
    · rw [s0 y hc]
  · intro y hy ht
    refine s0 y (fun hc => ?_)
    rcases ht with ht | ht
    · exact pz_chtp hI hn hy hc ht
    · subst ht
      exact nn hc
  · intro y hy hl
    have hyn : y ≠ n := fun z => by subst z; exact Nat.lt_irrefl _ hl
    have hc : ¬ pz_ch f n y := fun hc => by
      have := (pz_ch_sub hI hn hy hc).1
      omega
    exact ⟨A9 y, B 10 y hyn hc⟩
/-- handDown: nothing waits at n any more -/
theorem pz_hd_ok {f : pz_S} {sv : pz_V} {n : Nat} (hI : pz_I f sv) (hn : n < 24) : ∃ sv', pz_HR f sv (pz_hd f n) sv' n ∧ pz_hd f n 9 n = 0 ∧ pz_hd f n 10 n = 0 := by
  obtain ⟨sv1, h1, e1⟩ := pz_hT_ok hI hn
  obtain ⟨sv2, h2, e2, e3⟩ := pz_hP_ok h1.1 hn
  exact ⟨sv2, pz_HR_tr h1 h2, by unfold pz_hd; rw [e3, e1], e2⟩
end
section
/-! PLAIN 4: rotate -/
def pz_tb (f : pz_S) (n : Nat) : Bool := decide (f 2 n < 0) || (decide (f 0 (f 2 n).toNatClampNeg ≠ nI n) && decide (f 1 (f 2 n).toNatClampNeg ≠ nI n))
theorem pz_tb_iff {f : pz_S} {n : Nat} (h : pz_P (f 2 n)) : pz_tb f n = true ↔ pz_tp f n := by
  unfold pz_tb pz_tp
  simp only [Bool.or_eq_true, Bool.and_eq_true, decide_eq_true_eq]
  rcases h with e | ⟨j, hj, e⟩
  · rw [e]
    constructor
    · intro _ p hp h
      exact absurd h.symm (pz_nm hp)
    · intro _
      exact Or.inl pz_m1
  · rw [e, pz_cl hj]
    constructor
    · rintro (h | ⟨h0, h1⟩) p hp ep
      · exact absurd h (pz_nlt hj)
      · have := pz_inj hj hp ep
        subst this
        rintro (h | h)
        · exact h0 h
        · exact h1 h
    · intro h
      have := h j hj rfl
      exact Or.inr ⟨fun z => this (Or.inl z), fun z => this (Or.inr z)⟩
def pz_j (a : Nat) (A : List (Nat × Int32)) (q : Nat × Int32) (B : List (Nat × Int32)) : List (Nat × Int32) := if a = 0 then A ++ q :: B else B ++ q :: A
abbrev pz_ab (a b : Nat) : Prop := (a = 0 ∧ b = 1) ∨ (a = 1 ∧ b = 0)
theorem pz_j_clean {f : pz_S} {sv : pz_V} {x a b : Nat} (hab : pz_ab a b) (h : pz_L1 f sv x) (h9 : f 9 x = 0) (h10 : f 10 x = 0) : sv x = pz_j a (pz_sc sv (f a x)) (x, f 3 x) (pz_sc sv (f b x)) := by
  rw [pz_clean h h9 h10]
  rcases hab with ⟨rfl, rfl⟩ | ⟨rfl, rfl⟩ <;> rfl
theorem pz_j_L1 {f : pz_S} {sv : pz_V} {x a b : Nat} (hab : pz_ab a b) (h9 : f 9 x = 0) (h10 : f 10 x = 0) (h : sv x = pz_j a (pz_sc sv (f a x)) (x, f 3 x) (pz_sc sv (f b x))) : pz_L1 f sv x := by
  unfold pz_L1
  rw [h9, h10, pz_rv_0, pz_pt_0, pz_pt_0, h]
  rcases hab with ⟨rfl, rfl⟩ | ⟨rfl, rfl⟩ <;> rfl
theorem pz_j_as {a : Nat} {X Y Z : List (Nat × Int32)} {u w : Nat × Int32} : pz_j a (pz_j a X u Y) w Z = pz_j a X u (pz_j a Y w Z) := by
  unfold pz_j
  split <;> simp
theorem pz_j_id {a : Nat} {A B : List (Nat × Int32)} {q : Nat × Int32} {y : Nat} : y ∈ pz_id (pz_j a A q B) ↔ y ∈ pz_id A ∨ y = q.1 ∨ y ∈ pz_id B := by
  unfold pz_j
  split
  · rw [pz_id_app, pz_id_cons, List.mem_append, List.mem_cons]
  · rw [pz_id_app, pz_id_cons, List.mem_append, List.mem_cons]
    constructor
    · rintro (h | h | h)
      · exact Or.inr (Or.inr h)
      · exact Or.inr (Or.inl h)
      · exact Or.inl h
    · rintro (h | h | h)
      · exact Or.inr (Or.inr h)
      · exact Or.inr (Or.inl h)
      · exact Or.inl h
theorem pz_j_nd {a : Nat} {A B : List (Nat × Int32)} {q : Nat × Int32} (h : (pz_id (pz_j a A q B)).Nodup) : (pz_id B).Nodup := by
  unfold pz_j at h
  split at h
  · rw [pz_id_app, pz_id_cons] at h
    exact (List.nodup_cons.mp (List.nodup_append.mp h).2.1).2
  · rw [pz_id_app, pz_id_cons] at h
    exact (List.nodup_append.mp h).1
theorem pz_ab_ch {f : pz_S} {a b x c : Nat} (hab : pz_ab a b) : pz_ch f x c ↔ f a x = nI c ∨ f b x = nI c := by
  rcases hab with ⟨rfl, rfl⟩ | ⟨rfl, rfl⟩
  · exact Iff.rfl
  · exact Or.comm
def pz_r3 (f : pz_S) (n p a b : Nat) : pz_S := if f b n < 0 then pz_fu (pz_fu f a p (f b n)) b n (nI p) else pz_fu (pz_fu (pz_fu f a p (f b n)) b n (nI p)) 2 (f b n).toNatClampNeg (nI p)
def pz_r5 (f : pz_S) (n p a b : Nat) : pz_S := pz_fu (pz_fu (pz_r3 f n p a b) 2 p (nI n)) 2 n (f 2 p)
def pz_r6 (f : pz_S) (n p a b : Nat) : pz_S := if pz_tb f p = true then pz_r5 f n p a b else if pz_r5 f n p a b 0 (f 2 p).toNatClampNeg = nI p then pz_fu (pz_r5 f n p a b) 0 (f 2 p).toNatClampNeg (nI n) else pz_fu (pz_r5 f n p a b) 1 (f 2 p).toNatClampNeg (nI n)
def pz_rot (f : pz_S) (n p : Nat) : pz_S := if f 0 p = nI n then pz_gth (pz_gth (pz_r6 f n p 0 1) p) n else pz_gth (pz_gth (pz_r6 f n p 1 0) p) n
theorem pz_r3_2 {f : pz_S} {n p a b y : Nat} {k : Nat} (hk : k ≠ 2) : pz_r3 f n p a b k y = pz_fu (pz_fu f a p (f b n)) b n (nI p) k y := by
  unfold pz_r3
  split
  · rfl
  · exact pz_fu_k hk
set_option maxHeartbeats 4000000 in
/-- rotate, by its sides: n is the child of p on the side a -/
theorem pz_r6_ok {f : pz_S} {sv : pz_V} {n p a b : Nat} (hab : pz_ab a b) (hI : pz_I f sv) (hn : n < 24) (hp : p < 24) (hs : f a p = nI n) (n9 : f 9 n = 0) (n10 : f 10 n = 0) (p9 : f 9 p = 0) (p10 : f 10 p = 0) :
    ∃ sv', pz_I (pz_gth (pz_gth (pz_r6 f n p a b) p) n) sv' ∧ sv' n = sv p ∧ (∀ y, y ≠ n → y ≠ p → sv' y = sv y) ∧ (∀ k, k ≠ 0 → k ≠ 1 → k ≠ 2 → k ≠ 4 → k ≠ 5 → k ≠ 6 → k ≠ 7 → ∀ y, pz_gth (pz_gth (pz_r6 f n p a b) p) n k y = f k y) ∧
      (∀ y, y < 24 → (pz_tp (pz_gth (pz_gth (pz_r6 f n p a b) p) n) y ↔ (y = n ∧ pz_tp f p) ∨ (y ≠ n ∧ y ≠ p ∧ pz_tp f y))) ∧ pz_gth (pz_gth (pz_r6 f n p a b) p) n 2 n = f 2 p ∧ (∀ y, y < 24 → y ≠ n → y ≠ p → pz_tp f y → pz_gth (pz_gth (pz_r6 f n p a b) p) n 2 y = f 2 y) ∧
      (∀ c, c < 24 → f a n = nI c → pz_ch (pz_gth (pz_gth (pz_r6 f n p a b) p) n) n c ∧ pz_gth (pz_gth (pz_r6 f n p a b) p) n 2 c = nI n) := by
  have a2 : a ≠ 2 := by rcases hab with ⟨rfl, rfl⟩ | ⟨rfl, rfl⟩ <;> decide
  have b2 : b ≠ 2 := by rcases hab with ⟨rfl, rfl⟩ | ⟨rfl, rfl⟩ <;> decide
  have anb : a ≠ b := by rcases hab with ⟨rfl, rfl⟩ | ⟨rfl, rfl⟩ <;> decide
  have bna : b ≠ a := fun z => anb z.symm
  have hch : ∀ x c, pz_ch f x c ↔ f a x = nI c ∨ f b x = nI c := fun x c => pz_ab_ch hab
  have hchn : pz_ch f p n := (hch p n).mpr (Or.inl hs)
  have hnp : n ≠ p := pz_chne hI hp hn hchn
  have hpn : p ≠ n := fun z => hnp z.symm
  have hPa : ∀ x, x < 24 → pz_P (f a x) := fun x hx => by
    rcases hab with ⟨rfl, rfl⟩ | ⟨rfl, rfl⟩
    · exact (hI x hx).1.1.1
    · exact (hI x hx).1.1.2.1
  have hPb : ∀ x, x < 24 → pz_P (f b x) := fun x hx => by
    rcases hab with ⟨rfl, rfl⟩ | ⟨rfl, rfl⟩
    · exact (hI x hx).1.1.2.1
    · exact (hI x hx).1.1.1
  have hP2 : ∀ x, x < 24 → pz_P (f 2 x) := fun x hx => (hI x hx).1.1.2.2
  have lr : ∀ x c, x < 24 → c < 24 → f a x = nI c → f b x ≠ nI c := fun x c hx hc h1 h2 => by
    rcases hab with ⟨rfl, rfl⟩ | ⟨rfl, rfl⟩
    · exact pz_lr hI hx hc hc h1 h2 rfl
    · exact pz_lr hI hx hc hc h2 h1 rfl
  -- who has whom as a child
  have own : ∀ x, x < 24 → ¬ pz_ch f x x := fun x hx h => pz_chne hI hx hx h rfl
  have hnop : ¬ pz_ch f n p := fun h => by
    have h1 := (pz_ch_sub hI hn hp h).1
    have h2 := (pz_ch_sub hI hp hn hchn).1
    omega
  have mvn : f b n ≠ nI n := fun h => own n hn ((hch n n).mpr (Or.inr h))
  have mvp : f b n ≠ nI p := fun h => hnop ((hch n p).mpr (Or.inr h))
  have parn : ∀ x, x < 24 → pz_ch f x n → x = p := fun x hx h => pz_par hI hx hp hn h hchn
  -- r5 by places
  have r5a : pz_r5 f n p a b a p = f b n := by
    unfold pz_r5
    rw [pz_fu_k a2, pz_fu_k a2, pz_r3_2 a2, pz_fu_k anb, pz_fu_s]
  have r5b : pz_r5 f n p a b b n = nI p := by
    unfold pz_r5
    rw [pz_fu_k b2, pz_fu_k b2, pz_r3_2 b2, pz_fu_s]
  have r5a' : ∀ y, y ≠ p → pz_r5 f n p a b a y = f a y := fun y hy => by
    unfold pz_r5
    rw [pz_fu_k a2, pz_fu_k a2, pz_r3_2 a2, pz_fu_k anb, pz_fu_i hy]
  have r5b' : ∀ y, y ≠ n → pz_r5 f n p a b b y = f b y := fun y hy => by
    unfold pz_r5
    rw [pz_fu_k b2, pz_fu_k b2, pz_r3_2 b2, pz_fu_i hy, pz_fu_k bna]
  have r52n : pz_r5 f n p a b 2 n = f 2 p := by
    unfold pz_r5
    rw [pz_fu_s]
  have r52p : pz_r5 f n p a b 2 p = nI n := by
    unfold pz_r5
    rw [pz_fu_i hpn, pz_fu_s]
  have r52m : ∀ c, c < 24 → f b n = nI c → pz_r5 f n p a b 2 c = nI p := fun c hc h => by
    have c1 : c ≠ n := fun z => mvn (by rw [h, z])
    have c2 : c ≠ p := fun z => mvp (by rw [h, z])
    unfold pz_r5 pz_r3
    rw [pz_fu_i c1, pz_fu_i c2, h, if_neg (pz_nlt hc), pz_cl hc, pz_fu_s]
  have r52 : ∀ y, y ≠ n → y ≠ p → f b n ≠ nI y → pz_r5 f n p a b 2 y = f 2 y := fun y h1 h2 h3 => by
    unfold pz_r5 pz_r3
    rw [pz_fu_i h1, pz_fu_i h2]
    rcases hPb n hn with e | ⟨j, hj, e⟩
    · rw [e, if_pos pz_m1, pz_fu_k (Ne.symm b2), pz_fu_k (Ne.symm a2)]
    · rw [e, if_neg (pz_nlt hj), pz_cl hj, pz_fu_i (fun z => h3 (by rw [e, z])), pz_fu_k (Ne.symm b2), pz_fu_k (Ne.symm a2)]
  have r5k : ∀ k y, k ≠ 0 → k ≠ 1 → k ≠ 2 → pz_r5 f n p a b k y = f k y := fun k y k0 k1 k2 => by
    have ka : k ≠ a := by rcases hab with ⟨rfl, rfl⟩ | ⟨rfl, rfl⟩ <;> assumption
    have kb : k ≠ b := by rcases hab with ⟨rfl, rfl⟩ | ⟨rfl, rfl⟩ <;> assumption
    unfold pz_r5
    rw [pz_fu_k k2, pz_fu_k k2, pz_r3_2 k2, pz_fu_k kb, pz_fu_k ka]
  -- r6 by places
  have r6c : ∀ k y, (k = 0 ∨ k = 1) → y < 24 → y ≠ n → y ≠ p → pz_r6 f n p a b k y = if f k y = nI p then nI n else f k y := by
    intro k y hk hy y1 y2
    have e5 : pz_r5 f n p a b k y = f k y := by
      rcases hk with rfl | rfl <;> rcases hab with ⟨rfl, rfl⟩ | ⟨rfl, rfl⟩ <;> first | exact r5a' y y2 | exact r5b' y y1
    have kch : f k y = nI p → pz_ch f y p := fun h => by
      rcases hk with rfl | rfl
      · exact Or.inl h
      · exact Or.inr h
    unfold pz_r6
    by_cases ht : pz_tb f p = true
    · rw [if_pos ht, e5]
      by_cases hz : f k y = nI p
      · exact absurd ((pz_tb_iff (hP2 p hp)).mp ht) (pz_chtp hI hy hp (kch hz))
      · rw [if_neg hz]
    · rw [if_neg ht]
      obtain ⟨q, hq, eq, hqc⟩ := pz_ntp (fun z => ht ((pz_tb_iff (hP2 p hp)).mpr z))
      have q1 : q ≠ n := fun z => by subst z; exact hnop hqc
      have q2 : q ≠ p := fun z => by subst z; exact own _ hq hqc
      have e0 : pz_r5 f n p a b 0 q = f 0 q := by
        rcases hab with ⟨rfl, rfl⟩ | ⟨rfl, rfl⟩ <;> first | exact r5a' q q2 | exact r5b' q q1
      rw [eq, pz_cl hq, e0]
      by_cases hz : f k y = nI p
      · have hyq : y = q := pz_par hI hy hq hp (kch hz) hqc
        subst hyq
        rw [if_pos hz]
        rcases hk with rfl | rfl
        · rw [if_pos hz, pz_fu_s]
        · rw [if_neg (fun z => pz_lr hI hy hp hp z hz rfl), pz_fu_s]
      · rw [if_neg hz]
        by_cases hyq : y = q
        · subst hyq
          rcases hk with rfl | rfl
          · rw [if_neg hz, pz_fu_k (by decide), e5]
          · rcases hqc with h | h
            · rw [if_pos h, pz_fu_k (by decide), e5]
            · exact absurd h hz
        · split
          · rw [pz_fu_i hyq, e5]
          · rw [pz_fu_i hyq, e5]
  have r6x : ∀ k y, (y = n ∨ y = p ∨ (k ≠ 0 ∧ k ≠ 1)) → pz_r6 f n p a b k y = pz_r5 f n p a b k y := by
    intro k y hy
    unfold pz_r6
    by_cases ht : pz_tb f p = true
    · rw [if_pos ht]
    · rw [if_neg ht]
      obtain ⟨q, hq, eq, hqc⟩ := pz_ntp (fun z => ht ((pz_tb_iff (hP2 p hp)).mpr z))
      have q1 : q ≠ n := fun z => by subst z; exact hnop hqc
      have q2 : q ≠ p := fun z => by subst z; exact own _ hq hqc
      rw [eq, pz_cl hq]
      rcases hy with rfl | rfl | ⟨h0, h1⟩
      · split
        · rw [pz_fu_i (Ne.symm q1)]
        · rw [pz_fu_i (Ne.symm q1)]
      · split
        · rw [pz_fu_i (Ne.symm q2)]
        · rw [pz_fu_i (Ne.symm q2)]
      · split
        · rw [pz_fu_k h0]
        · rw [pz_fu_k h1]
  obtain ⟨F, hF⟩ : ∃ F, F = pz_r6 f n p a b := ⟨_, rfl⟩
  have ha01 : a = 0 ∨ a = 1 := by rcases hab with ⟨h, -⟩ | ⟨h, -⟩ <;> simp [h]
  have hb01 : b = 0 ∨ b = 1 := by rcases hab with ⟨-, h⟩ | ⟨-, h⟩ <;> simp [h]
  have Fap : F a p = f b n := by rw [hF, r6x a p (Or.inr (Or.inl rfl)), r5a]
  have Fbp : F b p = f b p := by rw [hF, r6x b p (Or.inr (Or.inl rfl)), r5b' p hpn]
  have Fan : F a n = f a n := by rw [hF, r6x a n (Or.inl rfl), r5a' n hnp]
  have Fbn : F b n = nI p := by rw [hF, r6x b n (Or.inl rfl), r5b]
  have Fc : ∀ k y, (k = 0 ∨ k = 1) → y < 24 → y ≠ n → y ≠ p → F k y = if f k y = nI p then nI n else f k y := by rw [hF]; exact r6c
  have F2n : F 2 n = f 2 p := by rw [hF, r6x 2 n (Or.inl rfl), r52n]
  have F2p : F 2 p = nI n := by rw [hF, r6x 2 p (Or.inr (Or.inl rfl)), r52p]
  have F2m : ∀ c, c < 24 → f b n = nI c → F 2 c = nI p := fun c hc h => by rw [hF, r6x 2 c (Or.inr (Or.inr ⟨by decide, by decide⟩)), r52m c hc h]
  have F2 : ∀ y, y ≠ n → y ≠ p → f b n ≠ nI y → F 2 y = f 2 y := fun y h1 h2 h3 => by rw [hF, r6x 2 y (Or.inr (Or.inr ⟨by decide, by decide⟩)), r52 y h1 h2 h3]
  have Fk : ∀ k y, k ≠ 0 → k ≠ 1 → k ≠ 2 → F k y = f k y := fun k y k0 k1 k2 => by rw [hF, r6x k y (Or.inr (Or.inr ⟨k0, k1⟩)), r5k k y k0 k1 k2]
  have hchF : ∀ x c, pz_ch F x c ↔ F a x = nI c ∨ F b x = nI c := fun x c => pz_ab_ch hab
  rw [← hF]
  clear hF r6c r6x r5a r5b r5a' r5b' r52n r52p r52m r52 r5k
  -- the lists
  have svn := pz_j_clean hab (hI n hn).1.2.1 n9 n10
  have svp := pz_j_clean hab (hI p hp).1.2.1 p9 p10
  rw [hs, pz_sc_n hn, svn, pz_j_as] at svp
  obtain ⟨Lp, hLp⟩ : ∃ Lp, Lp = pz_j a (pz_sc sv (f b n)) (p, f 3 p) (pz_sc sv (f b p)) := ⟨_, rfl⟩
  rw [← hLp] at svp
  obtain ⟨sv', hsv⟩ : ∃ sv' : pz_V, sv' = fun y => if y = n then sv p else if y = p then Lp else sv y := ⟨_, rfl⟩
  have s_n : sv' n = sv p := by rw [hsv]; exact if_pos rfl
  have s_p : sv' p = Lp := by rw [hsv]; show (if p = n then sv p else if p = p then Lp else sv p) = Lp; rw [if_neg hpn, if_pos rfl]
  have s_o : ∀ y, y ≠ n → y ≠ p → sv' y = sv y := fun y h1 h2 => by rw [hsv]; show (if y = n then sv p else if y = p then Lp else sv y) = sv y; rw [if_neg h1, if_neg h2]
  have nd := (hI p hp).1.2.2.2
  have scm : pz_sc sv' (f b n) = pz_sc sv (f b n) := pz_sc_congr (hPb n hn) (fun j _ z => s_o j (fun w => mvn (by rw [z, w])) (fun w => mvp (by rw [z, w])))
  have scp : pz_sc sv' (f b p) = pz_sc sv (f b p) := pz_sc_congr (hPb p hp) (fun j hj z => s_o j (fun w => lr p n hp hn hs (by rw [z, w])) (fun w => own p hp ((hch p p).mpr (Or.inr (by rw [z, w])))))
  have scn : pz_sc sv' (f a n) = pz_sc sv (f a n) := pz_sc_congr (hPa n hn) (fun j hj z => s_o j (fun w => own n hn ((hch n n).mpr (Or.inl (by rw [z, w])))) (fun w => hnop ((hch n p).mpr (Or.inl (by rw [z, w])))))
  -- structure everywhere
  have S : ∀ y, y < 24 → pz_Str F sv' y := by
    intro y hy
    by_cases y1 : y = n
    · subst y1
      refine ⟨?_, pz_j_L1 hab (by rw [Fk 9 y (by decide) (by decide) (by decide)]; exact n9) (by rw [Fk 10 y (by decide) (by decide) (by decide)]; exact n10) ?_, ?_, ?_⟩
      · have q1 : pz_P (F a y) := by rw [Fan]; exact hPa y hy
        have q2 : pz_P (F b y) := by rw [Fbn]; exact pz_P_n hp
        have q3 : pz_P (F 2 y) := by rw [F2n]; exact hP2 p hp
        rcases hab with ⟨rfl, rfl⟩ | ⟨rfl, rfl⟩
        · exact ⟨q1, q2, q3⟩
        · exact ⟨q2, q1, q3⟩
      · rw [s_n, Fan, Fbn, Fk 3 y (by decide) (by decide) (by decide), scn, pz_sc_n hp, s_p]
        exact svp
      · intro c hc h
        rcases (hchF y c).mp h with h | h
        · rw [Fan] at h
          have c1 : c ≠ y := fun z => own y hy ((hch y y).mpr (Or.inl (by rw [h, z])))
          have c2 : c ≠ p := fun z => hnop ((hch y p).mpr (Or.inl (by rw [h, z])))
          rw [F2 c c1 c2 (lr y c hy hc h)]
          exact (hI y hy).1.2.2.1 c hc ((hch y c).mpr (Or.inl h))
        · rw [Fbn] at h
          have := pz_inj hp hc h
          subst this
          exact F2p
      · unfold pz_L4
        rw [s_n]
        exact nd
    · by_cases y2 : y = p
      · subst y2
        refine ⟨?_, pz_j_L1 hab (by rw [Fk 9 y (by decide) (by decide) (by decide)]; exact p9) (by rw [Fk 10 y (by decide) (by decide) (by decide)]; exact p10) ?_, ?_, ?_⟩
        · have q1 : pz_P (F a y) := by rw [Fap]; exact hPb n hn
          have q2 : pz_P (F b y) := by rw [Fbp]; exact hPb y hy
          have q3 : pz_P (F 2 y) := by rw [F2p]; exact pz_P_n hn
          rcases hab with ⟨rfl, rfl⟩ | ⟨rfl, rfl⟩
          · exact ⟨q1, q2, q3⟩
          · exact ⟨q2, q1, q3⟩
        · rw [s_p, Fap, Fbp, Fk 3 y (by decide) (by decide) (by decide), scm, scp]
          exact hLp
        · intro c hc h
          rcases (hchF y c).mp h with h | h
          · rw [Fap] at h
            exact F2m c hc h
          · rw [Fbp] at h
            have c1 : c ≠ n := fun z => lr y n hy hn hs (by rw [h, z])
            have c2 : c ≠ y := fun z => own y hy ((hch y y).mpr (Or.inr (by rw [h, z])))
            have c3 : f b n ≠ nI c := fun z => hnp (pz_par hI hn hy hc ((hch n c).mpr (Or.inr z)) ((hch y c).mpr (Or.inr h)))
            rw [F2 c c1 c2 c3]
            exact (hI y hy).1.2.2.1 c hc ((hch y c).mpr (Or.inr h))
        · unfold pz_L4
          rw [s_p]
          unfold pz_L4 at nd
          rw [svp] at nd
          exact ⟨pz_j_nd nd.1, fun z hz => nd.2 z (pz_j_id.mpr (Or.inr (Or.inr hz)))⟩
      · obtain ⟨⟨⟨P0, P1, P2⟩, h1, h3, h4⟩, -⟩ := hI y hy
        have fc0 := Fc 0 y (Or.inl rfl) hy y1 y2
        have fc1 := Fc 1 y (Or.inr rfl) hy y1 y2
        have PP : ∀ v w : Int32, pz_P v → w = (if v = nI p then nI n else v) → pz_P w := fun v w hv hw => by
          rw [hw]
          split
          · exact pz_P_n hn
          · exact hv
        have SC : ∀ v w : Int32, pz_P v → w = (if v = nI p then nI n else v) → (∀ c, c < 24 → v = nI c → pz_ch f y c) → pz_sc sv' w = pz_sc sv v := fun v w hv hw hc => by
          rw [hw]
          split
          · rename_i e
            rw [e, pz_sc_n hn, pz_sc_n hp, s_n]
          · rename_i e
            exact pz_sc_congr hv (fun j hj z => s_o j (fun w => y2 (parn y hy (by rw [← w]; exact hc j hj z))) (fun w => e (by rw [z, w])))
        refine ⟨⟨PP _ _ P0 fc0, PP _ _ P1 fc1, ?_⟩, ?_, ?_, ?_⟩
        · by_cases hm : f b n = nI y
          · rw [F2m y hy hm]
            exact pz_P_n hp
          · rw [F2 y y1 y2 hm]
            exact P2
        · unfold pz_L1
          rw [s_o y y1 y2, SC _ _ P0 fc0 (fun c _ z => Or.inl z), SC _ _ P1 fc1 (fun c _ z => Or.inr z), Fk 9 y (by decide) (by decide) (by decide), Fk 10 y (by decide) (by decide) (by decide), Fk 11 y (by decide) (by decide) (by decide), Fk 3 y (by decide) (by decide) (by decide)]
          exact h1
        · have CC : ∀ v w : Int32, pz_P v → w = (if v = nI p then nI n else v) → (∀ c, c < 24 → v = nI c → pz_ch f y c) → ∀ c, c < 24 → w = nI c → F 2 c = nI y := fun v w hv hw hh c hc hz => by
            rw [hw] at hz
            split at hz
            · rename_i e
              have := pz_inj hn hc hz
              subst this
              rw [F2n]
              exact h3 p hp (hh p hp e)
            · rename_i e
              have hyc := hh c hc hz
              have c1 : c ≠ n := fun z => y2 (parn y hy (by rw [← z]; exact hyc))
              have c2 : c ≠ p := fun z => e (by rw [hz, z])
              have c3 : f b n ≠ nI c := fun z => y1 (pz_par hI hy hn hc hyc ((hch n c).mpr (Or.inr z)))
              rw [F2 c c1 c2 c3]
              exact h3 c hc hyc
          intro c hc h
          rcases h with h | h
          · exact CC _ _ P0 fc0 (fun c _ z => Or.inl z) c hc h
          · exact CC _ _ P1 fc1 (fun c _ z => Or.inr z) c hc h
        · unfold pz_L4
          rw [s_o y y1 y2]
          exact h4
  have T : ∀ y, y < 24 → y ≠ n → y ≠ p → pz_L2 F sv' y := fun y hy y1 y2 =>
    pz_L2_congr (hI y hy).2 (Fk 4 y (by decide) (by decide) (by decide)) (Fk 5 y (by decide) (by decide) (by decide)) (Fk 6 y (by decide) (by decide) (by decide)) (Fk 7 y (by decide) (by decide) (by decide)) (s_o y y1 y2) (fun z _ => Fk 8 z (by decide) (by decide) (by decide))
  have Tp : pz_L2 (pz_gth F p) sv' p := by
    refine pz_gth_L2 (S p hp) (by rw [Fk 9 p (by decide) (by decide) (by decide)]; exact p9) (by rw [Fk 10 p (by decide) (by decide) (by decide)]; exact p10) (fun c hc h => ?_)
    rcases (hchF p c).mp h with h | h
    · rw [Fap] at h
      have c1 : c ≠ n := fun z => mvn (by rw [h, z])
      have c2 : c ≠ p := fun z => mvp (by rw [h, z])
      exact ⟨c2, T c hc c1 c2⟩
    · rw [Fbp] at h
      have c1 : c ≠ n := fun z => lr p n hp hn hs (by rw [h, z])
      have c2 : c ≠ p := fun z => own p hp ((hch p p).mpr (Or.inr (by rw [h, z])))
      exact ⟨c2, T c hc c1 c2⟩
  have G : ∀ k y, k ≠ 4 → k ≠ 5 → k ≠ 6 → k ≠ 7 → pz_gth F p k y = F k y := fun k y h4 h5 h6 h7 => pz_gth_k h4 h5 h6 h7
  have Tn : pz_L2 (pz_gth (pz_gth F p) n) sv' n := by
    refine pz_gth_L2 (pz_gth_Str (S n hn)) (by rw [G 9 n (by decide) (by decide) (by decide) (by decide), Fk 9 n (by decide) (by decide) (by decide)]; exact n9) (by rw [G 10 n (by decide) (by decide) (by decide) (by decide), Fk 10 n (by decide) (by decide) (by decide)]; exact n10) (fun c hc h => ?_)
    have h : pz_ch F n c := by
      unfold pz_ch at h ⊢
      rw [G 0 n (by decide) (by decide) (by decide) (by decide), G 1 n (by decide) (by decide) (by decide) (by decide)] at h
      exact h
    rcases (hchF n c).mp h with h | h
    · rw [Fan] at h
      have c1 : c ≠ n := fun z => own n hn ((hch n n).mpr (Or.inl (by rw [h, z])))
      have c2 : c ≠ p := fun z => hnop ((hch n p).mpr (Or.inl (by rw [h, z])))
      exact ⟨c1, pz_gth_L2' c2 (T c hc c1 c2)⟩
    · rw [Fbn] at h
      have := pz_inj hp hc h
      subst this
      exact ⟨hpn, Tp⟩
  have K : ∀ k y, k ≠ 4 → k ≠ 5 → k ≠ 6 → k ≠ 7 → pz_gth (pz_gth F p) n k y = F k y := fun k y h4 h5 h6 h7 => by rw [pz_gth_k h4 h5 h6 h7, pz_gth_k h4 h5 h6 h7]
  have Kch : ∀ x c, pz_ch (pz_gth (pz_gth F p) n) x c ↔ pz_ch F x c := fun x c => by
    unfold pz_ch
    rw [K 0 x (by decide) (by decide) (by decide) (by decide), K 1 x (by decide) (by decide) (by decide) (by decide)]
  have Ktp : ∀ y, pz_tp (pz_gth (pz_gth F p) n) y ↔ pz_tp F y := pz_tp_congr (fun y => K 2 y (by decide) (by decide) (by decide) (by decide)) Kch
  refine ⟨sv', ?_, s_n, s_o, ?_, ?_, ?_, ?_, ?_⟩
  · intro y hy
    refine ⟨pz_gth_Str (pz_gth_Str (S y hy)), ?_⟩
    by_cases y1 : y = n
    · subst y1; exact Tn
    · by_cases y2 : y = p
      · subst y2; exact pz_gth_L2' y1 Tp
      · exact pz_gth_L2' y1 (pz_gth_L2' y2 (T y hy y1 y2))
  · intro k k0 k1 k2 k4 k5 k6 k7 y
    rw [K k y k4 k5 k6 k7, Fk k y k0 k1 k2]
  · intro y hy
    rw [Ktp y]
    -- children in F of others
    have chy : ∀ z, z < 24 → y ≠ n → y ≠ p → f b n ≠ nI y → (pz_ch F z y ↔ pz_ch f z y) := by
      intro z hz y1 y2 y3
      by_cases z1 : z = n
      · subst z1
        rw [hchF, hch, Fan, Fbn]
        constructor
        · rintro (h | h)
          · exact Or.inl h
          · exact absurd (pz_inj hp hy h).symm y2
        · rintro (h | h)
          · exact Or.inl h
          · exact absurd h y3
      · by_cases z2 : z = p
        · subst z2
          rw [hchF, hch, Fap, Fbp, hs]
          constructor
          · rintro (h | h)
            · exact absurd h y3
            · exact Or.inr h
          · rintro (h | h)
            · exact absurd (pz_inj hn hy h).symm y1
            · exact Or.inr h
        · have key : ∀ k, (k = 0 ∨ k = 1) → (F k z = nI y ↔ f k z = nI y) := fun k hk => by
            rw [Fc k z hk hz z1 z2]
            split
            · rename_i e
              rw [e]
              exact ⟨fun h => absurd (pz_inj hn hy h).symm y1, fun h => absurd (pz_inj hp hy h).symm y2⟩
            · exact Iff.rfl
          unfold pz_ch
          rw [key 0 (Or.inl rfl), key 1 (Or.inr rfl)]
    by_cases y1 : y = n
    · subst y1
      have chn : ∀ z, z < 24 → (pz_ch F z y ↔ pz_ch f z p) := by
        intro z hz
        by_cases z1 : z = y
        · subst z1
          refine ⟨fun h => ?_, fun h => absurd h hnop⟩
          rcases (hchF z z).mp h with h | h
          · rw [Fan] at h
            exact absurd ((hch z z).mpr (Or.inl h)) (own z hz)
          · rw [Fbn] at h
            exact absurd (pz_inj hp hz h) hpn
        · by_cases z2 : z = p
          · subst z2
            refine ⟨fun h => ?_, fun h => absurd h (own z hz)⟩
            rcases (hchF z y).mp h with h | h
            · rw [Fap] at h
              exact absurd h mvn
            · rw [Fbp] at h
              exact absurd h (lr z y hz hn hs)
          · have key : ∀ k, (k = 0 ∨ k = 1) → (F k z = nI y ↔ f k z = nI p) := fun k hk => by
              rw [Fc k z hk hz z1 z2]
              split
              · rename_i e
                exact ⟨fun _ => e, fun _ => rfl⟩
              · rename_i e
                refine ⟨fun h => absurd (parn z hz ?_) z2, fun h => absurd h e⟩
                rcases hk with rfl | rfl
                · exact Or.inl h
                · exact Or.inr h
            unfold pz_ch
            rw [key 0 (Or.inl rfl), key 1 (Or.inr rfl)]
      constructor
      · intro h
        exact Or.inl ⟨rfl, fun q hq e hc => h q hq (by rw [F2n]; exact e) ((chn q hq).mpr hc)⟩
      · rintro (⟨-, h⟩ | ⟨h, -⟩)
        · intro q hq e hc
          exact h q hq (by rw [← F2n]; exact e) ((chn q hq).mp hc)
        · exact absurd rfl h
    · by_cases y2 : y = p
      · subst y2
        refine ⟨fun h => absurd ((hchF n y).mpr (Or.inr Fbn)) (h n hn F2p), ?_⟩
        rintro (⟨h, -⟩ | ⟨-, h, -⟩)
        · exact absurd h y1
        · exact absurd rfl h
      · by_cases y3 : f b n = nI y
        · refine ⟨fun h => absurd ((hchF p y).mpr (Or.inl (by rw [Fap]; exact y3))) (h p hp (F2m y hy y3)), ?_⟩
          rintro (⟨h, -⟩ | ⟨-, -, h⟩)
          · exact absurd h y1
          · exact absurd h (pz_chtp hI hn hy ((hch n y).mpr (Or.inr y3)))
        · constructor
          · intro h
            exact Or.inr ⟨y1, y2, fun q hq e hc => h q hq (by rw [F2 y y1 y2 y3]; exact e) ((chy q hq y1 y2 y3).mpr hc)⟩
          · rintro (⟨h, -⟩ | ⟨-, -, h⟩)
            · exact absurd h y1
            · intro q hq e hc
              exact h q hq (by rw [← F2 y y1 y2 y3]; exact e) ((chy q hq y1 y2 y3).mp hc)
  · rw [K 2 n (by decide) (by decide) (by decide) (by decide), F2n]
  · intro y hy y1 y2 ht
    rw [K 2 y (by decide) (by decide) (by decide) (by decide)]
    exact F2 y y1 y2 (fun z => pz_chtp hI hn hy ((hch n y).mpr (Or.inr z)) ht)
  · intro c hc h
    have c1 : c ≠ n := fun z => own n hn ((hch n n).mpr (Or.inl (by rw [h, z])))
    have c2 : c ≠ p := fun z => hnop ((hch n p).mpr (Or.inl (by rw [h, z])))
    refine ⟨(Kch n c).mpr ((hchF n c).mpr (Or.inl (by rw [Fan]; exact h))), ?_⟩
    rw [K 2 c (by decide) (by decide) (by decide) (by decide), F2 c c1 c2 (lr n c hn hc h)]
    exact (hI n hn).1.2.2.1 c hc ((hch n c).mpr (Or.inl h))
end
section
/-! PLAIN 5: what the steps of lift do to the pieces -/
theorem pz_rot_ok {f : pz_S} {sv : pz_V} {n p : Nat} (hI : pz_I f sv) (hn : n < 24) (hp : p < 24) (hch : pz_ch f p n) (n9 : f 9 n = 0) (n10 : f 10 n = 0) (p9 : f 9 p = 0) (p10 : f 10 p = 0) :
    ∃ sv', pz_I (pz_rot f n p) sv' ∧ sv' n = sv p ∧ (∀ y, y ≠ n → y ≠ p → sv' y = sv y) ∧ (∀ k, k ≠ 0 → k ≠ 1 → k ≠ 2 → k ≠ 4 → k ≠ 5 → k ≠ 6 → k ≠ 7 → ∀ y, pz_rot f n p k y = f k y) ∧
      (∀ y, y < 24 → (pz_tp (pz_rot f n p) y ↔ (y = n ∧ pz_tp f p) ∨ (y ≠ n ∧ y ≠ p ∧ pz_tp f y))) ∧ pz_rot f n p 2 n = f 2 p ∧ (∀ y, y < 24 → y ≠ n → y ≠ p → pz_tp f y → pz_rot f n p 2 y = f 2 y) ∧
      (∀ c, c < 24 → ((f 0 p = nI n ∧ f 0 n = nI c) ∨ (¬ f 0 p = nI n ∧ f 1 n = nI c)) → pz_ch (pz_rot f n p) n c ∧ pz_rot f n p 2 c = nI n) := by
  by_cases h0 : f 0 p = nI n
  · obtain ⟨sv', h1, h2, h3, h4, h5, h6, h7, h8⟩ := pz_r6_ok (a := 0) (b := 1) (Or.inl ⟨rfl, rfl⟩) hI hn hp h0 n9 n10 p9 p10
    have e : pz_rot f n p = pz_gth (pz_gth (pz_r6 f n p 0 1) p) n := if_pos h0
    rw [e]
    refine ⟨sv', h1, h2, h3, h4, h5, h6, h7, fun c hc h => ?_⟩
    rcases h with ⟨-, h⟩ | ⟨h, -⟩
    · exact h8 c hc h
    · exact absurd h0 h
  · have h1 : f 1 p = nI n := by
      rcases hch with h | h
      · exact absurd h h0
      · exact h
    obtain ⟨sv', h1, h2, h3, h4, h5, h6, h7, h8⟩ := pz_r6_ok (a := 1) (b := 0) (Or.inr ⟨rfl, rfl⟩) hI hn hp h1 n9 n10 p9 p10
    have e : pz_rot f n p = pz_gth (pz_gth (pz_r6 f n p 1 0) p) n := if_neg h0
    rw [e]
    refine ⟨sv', h1, h2, h3, h4, h5, h6, h7, fun c hc h => ?_⟩
    rcases h with ⟨h, -⟩ | ⟨-, h⟩
    · exact absurd h h0
    · exact h8 c hc h
/-- the pieces (their lists and what they hang on) are the same; those without n have the same tops too -/
def pz_TR (f : pz_S) (sv : pz_V) (f' : pz_S) (sv' : pz_V) (n : Nat) : Prop :=
  (∀ x, x < 24 → pz_tp f x → n ∉ pz_id (sv x) → pz_tp f' x ∧ sv' x = sv x ∧ f' 2 x = f 2 x) ∧ (∀ x, x < 24 → pz_tp f' x → ∃ y, y < 24 ∧ pz_tp f y ∧ sv y = sv' x ∧ f 2 y = f' 2 x) ∧ (∀ y, y < 24 → pz_tp f y → ∃ x, x < 24 ∧ pz_tp f' x ∧ sv' x = sv y ∧ f' 2 x = f 2 y)
theorem pz_TR_tr {f f1 f2 : pz_S} {sv sv1 sv2 : pz_V} {n : Nat} (h1 : pz_TR f sv f1 sv1 n) (h2 : pz_TR f1 sv1 f2 sv2 n) : pz_TR f sv f2 sv2 n := by
  obtain ⟨a1, a2, a3⟩ := h1
  obtain ⟨b1, b2, b3⟩ := h2
  refine ⟨fun x hx ht hm => ?_, fun x hx ht => ?_, fun y hy ht => ?_⟩
  · obtain ⟨c1, c2, c3⟩ := a1 x hx ht hm
    obtain ⟨d1, d2, d3⟩ := b1 x hx c1 (by rw [c2]; exact hm)
    exact ⟨d1, d2.trans c2, d3.trans c3⟩
  · obtain ⟨y, hy, c1, c2, c3⟩ := b2 x hx ht
    obtain ⟨z, hz, d1, d2, d3⟩ := a2 y hy c1
    exact ⟨z, hz, d1, d2.trans c2, d3.trans c3⟩
  · obtain ⟨x, hx, c1, c2, c3⟩ := a3 y hy ht
    obtain ⟨z, hz, d1, d2, d3⟩ := b3 x hx c1
    exact ⟨z, hz, d1, d2.trans c2, d3.trans c3⟩
theorem pz_TR_same {f f' : pz_S} {sv sv' : pz_V} (n : Nat) (ht : ∀ x, x < 24 → (pz_tp f' x ↔ pz_tp f x)) (h2 : ∀ x, f' 2 x = f 2 x) (hs : ∀ x, x < 24 → pz_tp f x → sv' x = sv x) : pz_TR f sv f' sv' n :=
  ⟨fun x hx t _ => ⟨(ht x hx).mpr t, hs x hx t, h2 x⟩, fun x hx t => ⟨x, hx, (ht x hx).mp t, (hs x hx ((ht x hx).mp t)).symm, (h2 x).symm⟩, fun y hy t => ⟨y, hy, (ht y hy).mpr t, hs y hy t, h2 y⟩⟩
theorem pz_HR_TR {f f' : pz_S} {sv sv' : pz_V} {m : Nat} (n : Nat) (h : pz_HR f sv f' sv' m) : pz_TR f sv f' sv' n := by
  obtain ⟨a1, a2, a3, a4, a5, a6, a7, a8, a9⟩ := h
  exact pz_TR_same n (fun x _ => pz_tp_congr a4 a5 x) a4 (fun x hx t => a6 x hx (Or.inl t))
/-- only the stack differs -/
theorem pz_I12 {f f' : pz_S} {sv : pz_V} (h : ∀ k y, k ≠ 12 → f' k y = f k y) (hI : pz_I f sv) : pz_I f' sv := by
  intro x hx
  obtain ⟨hS, hT⟩ := hI x hx
  refine ⟨pz_Str_congr hS (h 0 x (by decide)) (h 1 x (by decide)) (by rw [h 2 x (by decide)]; exact hS.1.2.2) (h 3 x (by decide)) (h 9 x (by decide)) (h 10 x (by decide)) (h 11 x (by decide)) (fun c _ _ => ⟨h 2 c (by decide), rfl⟩) rfl, ?_⟩
  exact pz_L2_congr hT (h 4 x (by decide)) (h 5 x (by decide)) (h 6 x (by decide)) (h 7 x (by decide)) rfl (fun z _ => h 8 z (by decide))
theorem pz_ch12 {f f' : pz_S} (h : ∀ k y, k ≠ 12 → f' k y = f k y) (x c : Nat) : pz_ch f' x c ↔ pz_ch f x c := by
  unfold pz_ch
  rw [h 0 x (by decide), h 1 x (by decide)]
theorem pz_TR12 {f f' : pz_S} {sv : pz_V} (n : Nat) (h : ∀ k y, k ≠ 12 → f' k y = f k y) : pz_TR f sv f' sv n :=
  pz_TR_same n (fun x _ => pz_tp_congr (fun y => h 2 y (by decide)) (pz_ch12 h) x) (fun x => h 2 x (by decide)) (fun _ _ _ => rfl)
/-- nothing waits at n or above it in its piece -/
def pz_C (f : pz_S) (sv : pz_V) (n : Nat) : Prop := ∀ y, y < 24 → n ∈ pz_id (sv y) → f 9 y = 0 ∧ f 10 y = 0
theorem pz_rot_TR {f f' : pz_S} {sv sv' : pz_V} {m p n : Nat} (hI : pz_I f sv) (hm : m < 24) (hp : p < 24) (hch : pz_ch f p m) (hnm : n ∈ pz_id (sv m))
    (h2 : sv' m = sv p) (h3 : ∀ y, y ≠ m → y ≠ p → sv' y = sv y) (h5 : ∀ y, y < 24 → (pz_tp f' y ↔ (y = m ∧ pz_tp f p) ∨ (y ≠ m ∧ y ≠ p ∧ pz_tp f y))) (h6 : f' 2 m = f 2 p) (h7 : ∀ y, y < 24 → y ≠ m → y ≠ p → pz_tp f y → f' 2 y = f 2 y) : pz_TR f sv f' sv' n := by
  have hnp : n ∈ pz_id (sv p) := (pz_ch_sub hI hp hm hch).2 n hnm
  have hmt : ¬ pz_tp f m := pz_chtp hI hp hm hch
  refine ⟨fun x hx ht hx2 => ?_, fun x hx ht => ?_, fun y hy ht => ?_⟩
  · have x1 : x ≠ m := fun z => hx2 (by rw [z]; exact hnm)
    have x2 : x ≠ p := fun z => hx2 (by rw [z]; exact hnp)
    exact ⟨(h5 x hx).mpr (Or.inr ⟨x1, x2, ht⟩), h3 x x1 x2, h7 x hx x1 x2 ht⟩
  · rcases (h5 x hx).mp ht with ⟨rfl, t⟩ | ⟨x1, x2, t⟩
    · exact ⟨p, hp, t, h2.symm, h6.symm⟩
    · exact ⟨x, hx, t, (h3 x x1 x2).symm, (h7 x hx x1 x2 t).symm⟩
  · by_cases y1 : y = m
    · subst y1
      exact absurd ht hmt
    · by_cases y2 : y = p
      · subst y2
        exact ⟨m, hm, (h5 m hm).mpr (Or.inl ⟨rfl, ht⟩), h2, h6⟩
      · exact ⟨y, hy, (h5 y hy).mpr (Or.inr ⟨y1, y2, ht⟩), h3 y y1 y2, h7 y hy y1 y2 ht⟩
/-- one step of lift's last loop: rotate(n) -/
theorem pz_stepn {f : pz_S} {sv : pz_V} {n p : Nat} (hI : pz_I f sv) (hn : n < 24) (hp : p < 24) (hch : pz_ch f p n) (hC : pz_C f sv n) :
    ∃ sv', pz_I (pz_rot f n p) sv' ∧ pz_TR f sv (pz_rot f n p) sv' n ∧ pz_C (pz_rot f n p) sv' n ∧ (sv n).length < (sv' n).length ∧ (∀ y, pz_rot f n p 8 y = f 8 y) ∧ (¬ pz_tp f p → ¬ pz_tp (pz_rot f n p) n) := by
  obtain ⟨n9, n10⟩ := hC n hn (pz_self hI hn)
  obtain ⟨hl, hsub⟩ := pz_ch_sub hI hp hn hch
  obtain ⟨p9, p10⟩ := hC p hp (hsub n (pz_self hI hn))
  obtain ⟨sv', h1, h2, h3, h4, h5, h6, h7, h8⟩ := pz_rot_ok hI hn hp hch n9 n10 p9 p10
  refine ⟨sv', h1, pz_rot_TR hI hn hp hch (pz_self hI hn) h2 h3 h5 h6 h7, fun y hy hm => ?_, by rw [h2]; exact hl, h4 8 (by decide) (by decide) (by decide) (by decide) (by decide) (by decide) (by decide), fun ht h => ?_⟩
  · rw [h4 9 (by decide) (by decide) (by decide) (by decide) (by decide) (by decide) (by decide), h4 10 (by decide) (by decide) (by decide) (by decide) (by decide) (by decide) (by decide)]
    by_cases y1 : y = n
    · subst y1; exact ⟨n9, n10⟩
    · by_cases y2 : y = p
      · subst y2; exact ⟨p9, p10⟩
      · rw [h3 y y1 y2] at hm
        exact hC y hy hm
  · rcases (h5 n hn).mp h with ⟨-, t⟩ | ⟨t, -⟩
    · exact ht t
    · exact t rfl
/-- one step of lift's last loop: rotate(p) first, where both go the same way -/
theorem pz_stepp {f : pz_S} {sv : pz_V} {n p q : Nat} (hI : pz_I f sv) (hn : n < 24) (hp : p < 24) (hq : q < 24) (hch : pz_ch f p n) (hqp : pz_ch f q p) (hC : pz_C f sv n) (hsame : f 0 p = nI n ↔ f 0 q = nI p) :
    ∃ sv', pz_I (pz_rot f p q) sv' ∧ pz_TR f sv (pz_rot f p q) sv' n ∧ pz_C (pz_rot f p q) sv' n ∧ (sv n).length = (sv' n).length ∧ (∀ y, pz_rot f p q 8 y = f 8 y) ∧ pz_ch (pz_rot f p q) p n ∧ pz_rot f p q 2 n = nI p := by
  have hnn := pz_self hI hn
  obtain ⟨hl, hsub⟩ := pz_ch_sub hI hp hn hch
  obtain ⟨hl2, hsub2⟩ := pz_ch_sub hI hq hp hqp
  obtain ⟨p9, p10⟩ := hC p hp (hsub n hnn)
  obtain ⟨q9, q10⟩ := hC q hq (hsub2 n (hsub n hnn))
  obtain ⟨sv', h1, h2, h3, h4, h5, h6, h7, h8⟩ := pz_rot_ok hI hp hq hqp p9 p10 q9 q10
  have n1 : n ≠ p := pz_chne hI hp hn hch
  have n2 : n ≠ q := fun z => by rw [z] at hl; omega
  have h9 := h8 n hn (by
    by_cases h0 : f 0 q = nI p
    · exact Or.inl ⟨h0, hsame.mpr h0⟩
    · refine Or.inr ⟨h0, ?_⟩
      rcases hch with h | h
      · exact absurd (hsame.mp h) h0
      · exact h)
  refine ⟨sv', h1, pz_rot_TR hI hp hq hqp (hsub n hnn) h2 h3 h5 h6 h7, fun y hy hm => ?_, by rw [h3 n n1 n2], h4 8 (by decide) (by decide) (by decide) (by decide) (by decide) (by decide) (by decide), h9.1, h9.2⟩
  rw [h4 9 (by decide) (by decide) (by decide) (by decide) (by decide) (by decide) (by decide), h4 10 (by decide) (by decide) (by decide) (by decide) (by decide) (by decide) (by decide)]
  by_cases y1 : y = p
  · subst y1; exact ⟨p9, p10⟩
  · by_cases y2 : y = q
    · subst y2; exact ⟨q9, q10⟩
    · rw [h3 y y1 y2] at hm
      exact hC y hy hm
/-! lift's first two loops: the nodes from n up to the top -/
def pz_Ck (f : pz_S) (n : Nat) (st : Nat → Nat) (k : Nat) : Prop := st 0 = n ∧ (∀ i, i ≤ k → st i < 24) ∧ ∀ i, i < k → f 2 (st i) = nI (st (i + 1)) ∧ pz_ch f (st (i + 1)) (st i)
theorem pz_Ck_len {f : pz_S} {sv : pz_V} {n : Nat} {st : Nat → Nat} (hI : pz_I f sv) : ∀ {k : Nat}, pz_Ck f n st k → k + 1 ≤ (sv (st k)).length := by
  intro k
  induction k with
  | zero =>
    intro h
    exact pz_ne hI (h.2.1 0 (Nat.le_refl _))
  | succ k ih =>
    intro h
    have h1 := ih ⟨h.1, fun i hi => h.2.1 i (by omega), fun i hi => h.2.2 i (by omega)⟩
    have h2 := (pz_ch_sub hI (h.2.1 (k + 1) (Nat.le_refl _)) (h.2.1 k (by omega)) (h.2.2 k (by omega)).2).1
    omega
theorem pz_Ck_mono {f : pz_S} {sv : pz_V} {n : Nat} {st : Nat → Nat} (hI : pz_I f sv) {d : Nat} (h : pz_Ck f n st d) : ∀ (m i : Nat), i + m + 1 ≤ d → (sv (st i)).length < (sv (st (i + m + 1))).length := by
  intro m
  induction m with
  | zero =>
    intro i hi
    exact (pz_ch_sub hI (h.2.1 (i + 1) hi) (h.2.1 i (by omega)) (h.2.2 i (by omega)).2).1
  | succ m ih =>
    intro i hi
    have h1 := ih i (by omega)
    have h2 := (pz_ch_sub hI (h.2.1 (i + m + 1 + 1) hi) (h.2.1 (i + m + 1) (by omega)) (h.2.2 (i + m + 1) (by omega)).2).1
    exact Nat.lt_trans h1 h2
theorem pz_Ck_C {f : pz_S} {sv : pz_V} {n : Nat} {st : Nat → Nat} {d : Nat} (hI : pz_I f sv) (h : pz_Ck f n st d) (ht : pz_tp f (st d)) (hf : ∀ i, i ≤ d → f 9 (st i) = 0 ∧ f 10 (st i) = 0) : pz_C f sv n := by
  intro y hy hm
  have key : ∀ i, i ≤ d → (∃ j, j ≤ d ∧ y = st j) ∨ st i ∈ pz_id (sv y) := by
    intro i
    induction i with
    | zero =>
      intro _
      rw [h.1]
      exact Or.inr hm
    | succ i ih =>
      intro hi
      rcases ih (by omega) with h1 | h1
      · exact Or.inl h1
      · by_cases e : st i = y
        · exact Or.inl ⟨i, by omega, e.symm⟩
        · obtain ⟨p, a, b, c, m⟩ := pz_up hI _ y (st i) hy (Nat.le_refl _) h1 e
          have := pz_inj a (h.2.1 (i + 1) hi) (b.symm.trans (h.2.2 i (by omega)).1)
          subst this
          exact Or.inr m
  rcases key d (Nat.le_refl _) with ⟨j, hj, e⟩ | h1
  · rw [e]
    exact hf j hj
  · rw [← pz_top_mem hI hy ht h1]
    exact hf d (Nat.le_refl _)
/-- what lift does -/
def pz_LP (f : pz_S) (sv : pz_V) (n : Nat) (f' : pz_S) (sv' : pz_V) : Prop := pz_I f' sv' ∧ pz_TR f sv f' sv' n ∧ pz_tp f' n ∧ f' 9 n = 0 ∧ f' 10 n = 0 ∧ ∀ y, f' 8 y = f 8 y
end
section
/-! PLAIN 6: the model: ways up the parents, sums below a node; the pieces as paths.
 g 0: values, g 1: parents -/
def pz_W (g : pz_S) : List Nat → Int32 → Prop
  | [], x => x = -1
  | n :: l, x => n < 24 ∧ x = nI n ∧ pz_W g l (g 1 n)
theorem pz_W_det {g : pz_S} : ∀ {l l' : List Nat} {x : Int32}, pz_W g l x → pz_W g l' x → l = l' := by
  intro l
  induction l with
  | nil =>
    intro l' x h h'
    cases l' with
    | nil => rfl
    | cons n l' =>
      obtain ⟨hn, e, -⟩ := h'
      have : x = -1 := h
      rw [e] at this
      exact absurd this (pz_nm hn)
  | cons n l ih =>
    intro l' x h h'
    obtain ⟨hn, e, hl⟩ := h
    cases l' with
    | nil =>
      have : x = -1 := h'
      rw [e] at this
      exact absurd this (pz_nm hn)
    | cons n' l' =>
      obtain ⟨hn', e', hl'⟩ := h'
      have := pz_inj hn hn' (e.symm.trans e')
      subst this
      rw [ih hl hl']
theorem pz_W_sub {g : pz_S} : ∀ {a : List Nat} {n : Nat} {b : List Nat} {x : Int32}, pz_W g (a ++ n :: b) x → pz_W g (n :: b) (nI n) := by
  intro a
  induction a with
  | nil =>
    intro n b x h
    exact ⟨h.1, rfl, h.2.2⟩
  | cons m a ih =>
    intro n b x h
    exact ih h.2.2
theorem pz_W_lt {g : pz_S} : ∀ {l : List Nat} {x : Int32}, pz_W g l x → ∀ y ∈ l, y < 24 := by
  intro l
  induction l with
  | nil =>
    intro x _ y hy
    cases hy
  | cons n l ih =>
    intro x h y hy
    rcases List.mem_cons.mp hy with e | e
    · rw [e]; exact h.1
    · exact ih h.2.2 y e
theorem pz_W_nd {g : pz_S} : ∀ {l : List Nat} {x : Int32}, pz_W g l x → l.Nodup := by
  intro l
  induction l with
  | nil =>
    intro x _
    exact List.nodup_nil
  | cons n l ih =>
    intro x h
    refine List.nodup_cons.mpr ⟨fun hm => ?_, ih h.2.2⟩
    obtain ⟨a, b, e⟩ := List.append_of_mem hm
    have h1 : pz_W g (n :: l) (nI n) := ⟨h.1, rfl, h.2.2⟩
    have h2 : pz_W g (n :: b) (nI n) := by
      have := h.2.2
      rw [e] at this
      exact pz_W_sub this
    have h3 := congrArg List.length (pz_W_det h1 h2)
    rw [e] at h3
    simp only [List.length_cons, List.length_append] at h3
    omega
theorem pz_W_len {g : pz_S} {l : List Nat} {x : Int32} (h : pz_W g l x) : l.length ≤ 24 := by
  have h3 := List.Nodup.length_le_of_subset (l₂ := List.range 24) (pz_W_nd h) (fun y hy => List.mem_range.mpr (pz_W_lt h y hy))
  rw [List.length_range] at h3
  exact h3
def pz_wf (g : pz_S) : Nat → Int32 → List Nat
  | 0, _ => []
  | k + 1, x => if x < 0 then [] else x.toNatClampNeg :: pz_wf g k (g 1 x.toNatClampNeg)
def pz_w (g : pz_S) (n : Nat) : List Nat := pz_wf g 24 (nI n)
theorem pz_W_wf {g : pz_S} : ∀ {k : Nat} {l : List Nat} {x : Int32}, pz_W g l x → l.length ≤ k → pz_wf g k x = l := by
  intro k
  induction k with
  | zero =>
    intro l x _ hl
    cases l with
    | nil => rfl
    | cons n l => simp at hl
  | succ k ih =>
    intro l x h hl
    cases l with
    | nil =>
      have : x = -1 := h
      rw [this]
      exact if_pos pz_m1
    | cons n l =>
      obtain ⟨hn, e, hw⟩ := h
      subst e
      show (if nI n < 0 then [] else (nI n).toNatClampNeg :: pz_wf g k (g 1 (nI n).toNatClampNeg)) = n :: l
      rw [if_neg (pz_nlt hn), pz_cl hn, ih hw (by simp only [List.length_cons] at hl; omega)]
theorem pz_W_w {g : pz_S} {l : List Nat} {n : Nat} (h : pz_W g l (nI n)) : pz_w g n = l := pz_W_wf h (pz_W_len h)
/-- the parents make a forest -/
def pz_Fo (g : pz_S) : Prop := ∀ n, n < 24 → pz_W g (pz_w g n) (nI n)
theorem pz_Fo_of {g : pz_S} (h : ∀ n, n < 24 → ∃ l, pz_W g l (nI n)) : pz_Fo g := by
  intro n hn
  obtain ⟨l, hl⟩ := h n hn
  rw [pz_W_w hl]
  exact hl
theorem pz_w_c {g : pz_S} (hF : pz_Fo g) {n : Nat} (hn : n < 24) : ∃ l, pz_w g n = n :: l ∧ pz_W g l (g 1 n) := by
  have h := hF n hn
  cases hw : pz_w g n with
  | nil =>
    rw [hw] at h
    exact absurd h (pz_nm hn)
  | cons m l =>
    rw [hw] at h
    have := pz_inj h.1 hn h.2.1.symm
    subst this
    exact ⟨l, rfl, h.2.2⟩
theorem pz_w_self {g : pz_S} (hF : pz_Fo g) {n : Nat} (hn : n < 24) : n ∈ pz_w g n := by
  obtain ⟨l, e, -⟩ := pz_w_c hF hn
  rw [e]
  exact List.mem_cons_self
theorem pz_w_P {g : pz_S} (hF : pz_Fo g) {n : Nat} (hn : n < 24) : pz_P (g 1 n) := by
  obtain ⟨l, e, h⟩ := pz_w_c hF hn
  cases l with
  | nil => exact Or.inl h
  | cons m l => exact Or.inr ⟨m, h.1, h.2.1⟩
theorem pz_w_root {g : pz_S} {n : Nat} (hn : n < 24) (h : g 1 n = -1) : pz_w g n = [n] := pz_W_w (l := [n]) ⟨hn, rfl, h⟩
theorem pz_w_par {g : pz_S} (hF : pz_Fo g) {n p : Nat} (hn : n < 24) (hp : p < 24) (h : g 1 n = nI p) : pz_w g n = n :: pz_w g p := pz_W_w (l := n :: pz_w g p) ⟨hn, rfl, by rw [h]; exact hF p hp⟩
theorem pz_w_lt {g : pz_S} (hF : pz_Fo g) {n y : Nat} (hn : n < 24) (hy : y ∈ pz_w g n) : y < 24 := pz_W_lt (hF n hn) y hy
/-- a way ends with the way of each node on it -/
theorem pz_w_suf {g : pz_S} (hF : pz_Fo g) {n m : Nat} (hn : n < 24) (hm : m ∈ pz_w g n) : ∃ a, pz_w g n = a ++ pz_w g m := by
  obtain ⟨a, b, e⟩ := List.append_of_mem hm
  have h := hF n hn
  rw [e] at h
  have h1 := pz_W_w (pz_W_sub h)
  exact ⟨a, by rw [h1, e]⟩
theorem pz_w_tr {g : pz_S} (hF : pz_Fo g) {n m k : Nat} (hn : n < 24) (hm : m ∈ pz_w g n) (hk : k ∈ pz_w g m) : k ∈ pz_w g n := by
  obtain ⟨a, e⟩ := pz_w_suf hF hn hm
  rw [e]
  exact List.mem_append_right _ hk
/-! sums over the nodes -/
def pz_su (w : Nat → Int32) : Nat → Int32
  | 0 => 0
  | k + 1 => pz_su w k + w k
theorem pz_su_congr {w w' : Nat → Int32} : ∀ {k : Nat}, (∀ j, j < k → w j = w' j) → pz_su w k = pz_su w' k := by
  intro k
  induction k with
  | zero => intro _; rfl
  | succ k ih =>
    intro h
    simp only [pz_su]
    rw [ih (fun j hj => h j (by omega)), h k (by omega)]
theorem pz_su_add (w w' : Nat → Int32) : ∀ (k : Nat), pz_su (fun j => w j + w' j) k = pz_su w k + pz_su w' k := by
  intro k
  induction k with
  | zero => simp [pz_su]
  | succ k ih =>
    simp only [pz_su]
    rw [ih]
    grind
theorem pz_su_0 : ∀ (k : Nat), pz_su (fun _ => 0) k = 0 := by
  intro k
  induction k with
  | zero => rfl
  | succ k ih =>
    simp only [pz_su]
    rw [ih]
    simp
theorem pz_su_one (i : Nat) (v : Int32) : ∀ (k : Nat), pz_su (fun j => if j = i then v else 0) k = if i < k then v else 0 := by
  intro k
  induction k with
  | zero => simp [pz_su]
  | succ k ih =>
    simp only [pz_su]
    rw [ih]
    by_cases h1 : i < k
    · rw [if_pos h1, if_neg (by omega), if_pos (by omega)]
      simp
    · by_cases h2 : k = i
      · rw [if_neg h1, if_pos h2, if_pos (by omega)]
        simp
      · rw [if_neg h1, if_neg h2, if_neg (by omega)]
        simp
/-- the sum of the values under y -/
def pz_D (g : pz_S) (y : Nat) : Int32 := pz_su (fun k => if y ∈ pz_w g k then g 0 k else 0) 24
/-! pieces are paths -/
def pz_Cn (g : pz_S) : Int32 → List Nat → Prop
  | _, [] => True
  | a, n :: l => g 1 n = a ∧ pz_Cn g (nI n) l
theorem pz_Cn_suf {g : pz_S} : ∀ {A : List Nat} {y : Nat} {B : List Nat} {a : Int32}, pz_Cn g a (A ++ y :: B) → pz_Cn g (nI y) B := by
  intro A
  induction A with
  | nil => intro y B a h; exact h.2
  | cons z A ih => intro y B a h; exact ih h.2
theorem pz_Cn_put {g : pz_S} : ∀ {A : List Nat} {y : Nat} {B B' : List Nat} {a : Int32}, pz_Cn g a (A ++ y :: B) → pz_Cn g (nI y) B' → pz_Cn g a (A ++ y :: B') := by
  intro A
  induction A with
  | nil => intro y B B' a h h'; exact ⟨h.1, h'⟩
  | cons z A ih => intro y B B' a h h'; exact ⟨h.1, ih h.2 h'⟩
theorem pz_Cn_W {g : pz_S} : ∀ {A : List Nat} {y : Nat} {B : List Nat} {a : Int32} {la : List Nat}, pz_Cn g a (A ++ y :: B) → (∀ z ∈ A ++ y :: B, z < 24) → pz_W g la a → pz_W g (y :: (A.reverse ++ la)) (nI y) := by
  intro A
  induction A with
  | nil =>
    intro y B a la h hl hw
    exact ⟨hl y (by simp), rfl, by rw [h.1]; exact hw⟩
  | cons z A ih =>
    intro y B a la h hl hw
    have h1 : pz_W g (z :: la) (nI z) := ⟨hl z (by simp), rfl, by rw [h.1]; exact hw⟩
    have h2 := ih (y := y) (B := B) (a := nI z) (la := z :: la) h.2 (fun w hw => hl w (by rw [List.cons_append]; exact List.mem_cons_of_mem _ hw)) h1
    rw [List.reverse_cons, List.append_assoc]
    exact h2
def pz_hD (g : pz_S) : List (Nat × Int32) → Int32
  | [] => 0
  | q :: _ => pz_D g q.1
def pz_Hk (g : pz_S) (h : Nat → Int32) : List (Nat × Int32) → Prop
  | [] => True
  | q :: B => q.2 + h q.1 + pz_hD g B = pz_D g q.1 ∧ pz_Hk g h B
theorem pz_Hk_tel {g : pz_S} {h : Nat → Int32} : ∀ {L : List (Nat × Int32)}, pz_Hk g h L → pz_sm (fun q => q.2 + h q.1) L = pz_hD g L := by
  intro L
  induction L with
  | nil => intro _; rfl
  | cons q L ih =>
    intro hk
    simp only [pz_sm, pz_hD]
    rw [ih hk.2]
    exact hk.1
theorem pz_Hk_congr {g : pz_S} {h h' : Nat → Int32} : ∀ {L : List (Nat × Int32)}, pz_Hk g h L → (∀ y ∈ pz_id L, h' y = h y) → pz_Hk g h' L := by
  intro L
  induction L with
  | nil => intro _ _; trivial
  | cons q L ih =>
    intro hk he
    refine ⟨?_, ih hk.2 (fun y hy => he y (List.mem_cons_of_mem _ hy))⟩
    rw [he q.1 (by rw [pz_id_cons]; exact List.mem_cons_self)]
    exact hk.1
theorem pz_Hk_suf {g : pz_S} {h : Nat → Int32} : ∀ {A B : List (Nat × Int32)}, pz_Hk g h (A ++ B) → pz_Hk g h B := by
  intro A
  induction A with
  | nil => intro B hk; exact hk
  | cons q A ih => intro B hk; exact ih hk.2
theorem pz_Hk_put {g : pz_S} {h h' : Nat → Int32} : ∀ {A : List (Nat × Int32)} {q : Nat × Int32} {B B' : List (Nat × Int32)}, pz_Hk g h (A ++ q :: B) → (∀ y ∈ pz_id A, h' y = h y) → pz_Hk g h' (q :: B') → pz_Hk g h' (A ++ q :: B') := by
  intro A
  induction A with
  | nil => intro q B B' _ _ hk; exact hk
  | cons a A ih =>
    intro q B B' hk he hk'
    refine ⟨?_, ih hk.2 (fun y hy => he y (List.mem_cons_of_mem _ hy)) hk'⟩
    have h1 := hk.1
    rw [he a.1 (by rw [pz_id_cons]; exact List.mem_cons_self)]
    cases A with
    | nil => exact h1
    | cons b A => exact h1
/-- every piece is a path of the model's parents, with the model's values, and hanging is what hangs there -/
def pz_T (f : pz_S) (sv : pz_V) (g : pz_S) : Prop := ∀ x, x < 24 → pz_tp f x → pz_Cn g (f 2 x) (pz_id (sv x)) ∧ (∀ q ∈ sv x, q.2 = g 0 q.1) ∧ pz_Hk g (f 8) (sv x)
theorem pz_T_TR {f f' : pz_S} {sv sv' : pz_V} {g : pz_S} {n : Nat} (hT : pz_T f sv g) (hR : pz_TR f sv f' sv' n) (h8 : ∀ y, f' 8 y = f 8 y) : pz_T f' sv' g := by
  intro x hx ht
  obtain ⟨y, hy, ty, e1, e2⟩ := hR.2.1 x hx ht
  obtain ⟨a, b, c⟩ := hT y hy ty
  rw [← e1, ← e2]
  exact ⟨a, b, pz_Hk_congr c (fun z _ => h8 z)⟩
/-- no piece hangs on a node of its own -/
theorem pz_acyc {f : pz_S} {sv : pz_V} {g : pz_S} (hI : pz_I f sv) (hT : pz_T f sv g) (hF : pz_Fo g) {t a : Nat} (ht : t < 24) (ha : a < 24) (tt : pz_tp f t) (h2 : f 2 t = nI a) : a ∉ pz_id (sv t) := by
  intro hm
  obtain ⟨A, B, e⟩ := List.append_of_mem hm
  have h1 := (hT t ht tt).1
  have h3 := pz_Cn_W (A := A) (y := a) (B := B) (la := pz_w g a) (by rw [← e]; exact h1) (by rw [← e]; exact (hI t ht).1.2.2.2.2) (by rw [h2]; exact hF a ha)
  have h4 := congrArg List.length (pz_W_det h3 (hF a ha))
  simp only [List.length_cons, List.length_append] at h4
  omega
/-- the way of a node in a piece -/
theorem pz_way {f : pz_S} {sv : pz_V} {g : pz_S} (hI : pz_I f sv) (hT : pz_T f sv g) {t : Nat} (ht : t < 24) (tt : pz_tp f t) {la A B : List Nat} {y : Nat} (hw : pz_W g la (f 2 t)) (e : pz_id (sv t) = A ++ y :: B) : pz_w g y = y :: (A.reverse ++ la) :=
  pz_W_w (pz_Cn_W (A := A) (y := y) (B := B) (by rw [← e]; exact (hT t ht tt).1) (by rw [← e]; exact (hI t ht).1.2.2.2.2) hw)
/-- the whole of a piece's top is the sum under the piece's first node -/
theorem pz_whole {f : pz_S} {sv : pz_V} {g : pz_S} (hI : pz_I f sv) (hT : pz_T f sv g) {t : Nat} (ht : t < 24) (tt : pz_tp f t) : f 7 t = pz_hD g (sv t) := by
  rw [(hI t ht).2.2.2.2]
  exact pz_Hk_tel (hT t ht tt).2.2
end
section
/-! PLAIN 7: expose -/
def pz_e1 (f : pz_S) (a : Nat) : pz_S := if f 1 a < 0 then f else pz_fu f 8 a (f 8 a + f 7 (f 1 a).toNatClampNeg)
def pz_e2 (f : pz_S) (a : Nat) (last : Int32) : pz_S := if last < 0 then f else pz_fu f 8 a (f 8 a - f 7 last.toNatClampNeg)
def pz_ex (f : pz_S) (a : Nat) (last : Int32) : pz_S := pz_gth (pz_fu (pz_e2 (pz_e1 f a) a last) 1 a last) a
theorem pz_e1_k {f : pz_S} {a k y : Nat} (h : k ≠ 8 ∨ y ≠ a) : pz_e1 f a k y = f k y := by
  unfold pz_e1
  split
  · rfl
  · rcases h with h | h
    · exact pz_fu_k h
    · exact pz_fu_i h
theorem pz_e2_k {f : pz_S} {a k y : Nat} {last : Int32} (h : k ≠ 8 ∨ y ≠ a) : pz_e2 f a last k y = f k y := by
  unfold pz_e2
  split
  · rfl
  · rcases h with h | h
    · exact pz_fu_k h
    · exact pz_fu_i h
theorem pz_nil_id {l : List (Nat × Int32)} {y : Nat} (h : l = []) : y ∉ pz_id l := by
  subst h
  intro z
  cases z
set_option maxHeartbeats 4000000 in
/-- one piece is joined: what is deeper than a in its piece is cut off, the piece of last comes in its place -/
theorem pz_ex_ok {f : pz_S} {sv : pz_V} {g : pz_S} {a : Nat} {last : Int32} (hI : pz_I f sv) (hT : pz_T f sv g) (ha : a < 24) (ta : pz_tp f a) (a9 : f 9 a = 0) (a10 : f 10 a = 0) (hlP : pz_P last) (hl : ∀ t, t < 24 → last = nI t → pz_tp f t ∧ t ≠ a ∧ f 2 t = nI a) :
    ∃ sv' A B, pz_I (pz_ex f a last) sv' ∧ pz_T (pz_ex f a last) sv' g ∧ pz_tp (pz_ex f a last) a ∧ (∀ y, pz_ex f a last 2 y = f 2 y) ∧ sv a = A ++ (a, f 3 a) :: B ∧ sv' a = A ++ (a, f 3 a) :: pz_sc sv last ∧ (∀ x, x ≠ a → sv' x = sv x) ∧ (∀ x, x < 24 → pz_tp f x → x ≠ a → last ≠ nI x → pz_tp (pz_ex f a last) x) := by
  obtain ⟨⟨⟨P0, P1, P2⟩, hL1, hL3, hL4⟩, hL2⟩ := hI a ha
  have hsv := pz_clean hL1 a9 a10
  have own : ∀ x, x < 24 → ¬ pz_ch f x x := fun x hx h => pz_chne hI hx hx h rfl
  obtain ⟨F, hF⟩ : ∃ F, F = pz_fu (pz_e2 (pz_e1 f a) a last) 1 a last := ⟨_, rfl⟩
  have hG : pz_ex f a last = pz_gth F a := by unfold pz_ex; rw [hF]
  have Fk : ∀ k y, (k ≠ 1 ∧ k ≠ 8) ∨ y ≠ a → F k y = f k y := fun k y h => by
    rw [hF]
    rcases h with ⟨h1, h8⟩ | h
    · rw [pz_fu_k h1, pz_e2_k (Or.inl h8), pz_e1_k (Or.inl h8)]
    · rw [pz_fu_i h, pz_e2_k (Or.inr h), pz_e1_k (Or.inr h)]
  have F1 : F 1 a = last := by rw [hF, pz_fu_s]
  have nta : ∀ x, x < 24 → ¬ pz_ch f x a := fun x hx h => pz_chtp hI hx ha h ta
  -- a lies in no other list
  have out : ∀ x, x < 24 → x ≠ a → a ∉ pz_id (sv x) := fun x hx h hm => h (pz_top_mem hI hx ta hm).symm
  have F8 : F 8 a = f 8 a + pz_hD g (pz_sc sv (f 1 a)) - pz_hD g (pz_sc sv last) := by
    have hB : pz_Hk g (f 8) (pz_sc sv (f 1 a)) := by
      have h := (hT a ha ta).2.2
      rw [hsv] at h
      exact (pz_Hk_suf h).2
    have e1 : pz_e1 f a 8 a = f 8 a + pz_hD g (pz_sc sv (f 1 a)) := by
      unfold pz_e1
      rcases P1 with e | ⟨j, hj, e⟩
      · rw [e, if_pos pz_m1, pz_sc_m]
        simp [pz_hD]
      · rw [e, pz_sc_n hj] at hB
        rw [e, if_neg (pz_nlt hj), pz_cl hj, pz_fu_s, pz_sc_n hj, (hI j hj).2.2.2.2, pz_Hk_tel hB]
    rw [hF, pz_fu_k (by decide)]
    unfold pz_e2
    rcases hlP with e | ⟨j, hj, e⟩
    · rw [e, if_pos pz_m1, pz_sc_m, e1]
      simp [pz_hD]
    · obtain ⟨tj, -, -⟩ := hl j hj e
      rw [e, if_neg (pz_nlt hj), pz_cl hj, pz_fu_s, pz_sc_n hj, e1, pz_e1_k (Or.inl (by decide)), pz_whole hI hT hj tj]
  obtain ⟨A, hA⟩ : ∃ A, A = pz_sc sv (f 0 a) := ⟨_, rfl⟩
  obtain ⟨B, hB⟩ : ∃ B, B = pz_sc sv (f 1 a) := ⟨_, rfl⟩
  obtain ⟨C, hC⟩ : ∃ C, C = pz_sc sv last := ⟨_, rfl⟩
  rw [← hB, ← hC] at F8
  rw [← hA, ← hB] at hsv
  obtain ⟨sv', hs'⟩ : ∃ sv' : pz_V, sv' = fun y => if y = a then A ++ (a, f 3 a) :: C else sv y := ⟨_, rfl⟩
  have s_a : sv' a = A ++ (a, f 3 a) :: C := by rw [hs']; exact if_pos rfl
  have s_o : ∀ x, x ≠ a → sv' x = sv x := fun x h => by rw [hs']; exact if_neg h
  have Cm : ∀ y, y ∈ pz_id C → ∃ t, t < 24 ∧ last = nI t ∧ y ∈ pz_id (sv t) := fun y hy => by
    rcases hlP with e | ⟨j, hj, e⟩
    · rw [hC, e, pz_sc_m] at hy
      cases hy
    · rw [hC, e, pz_sc_n hj] at hy
      exact ⟨j, hj, e, hy⟩
  have naC : a ∉ pz_id C := fun h => by
    obtain ⟨t, ht, e, hm⟩ := Cm a h
    exact out t ht (hl t ht e).2.1 hm
  have nd := hL4.1
  rw [hsv, pz_id_app, pz_id_cons] at nd
  have ndA := List.nodup_append.mp nd
  have naA : a ∉ pz_id A := fun h => ndA.2.2 a h a List.mem_cons_self rfl
  have naB : a ∉ pz_id B := (List.nodup_cons.mp ndA.2.1).1
  have inA : ∀ y, y ∈ pz_id A → y ∈ pz_id (sv a) := fun y h => by rw [hsv, pz_id_app]; exact List.mem_append_left _ h
  have S : ∀ y, y < 24 → pz_Str F sv' y := by
    intro y hy
    by_cases y1 : y = a
    · subst y1
      have c0 : pz_sc sv' (f 0 y) = A := by
        rw [hA]
        exact pz_sc_congr P0 (fun j hj z => s_o j (fun w => own y hy (Or.inl (by rw [z, w]))))
      have c1 : pz_sc sv' last = C := by
        rw [hC]
        exact pz_sc_congr hlP (fun j hj z => s_o j (hl j hj z).2.1)
      refine ⟨⟨by rw [Fk 0 y (Or.inl ⟨by decide, by decide⟩)]; exact P0, by rw [F1]; exact hlP, by rw [Fk 2 y (Or.inl ⟨by decide, by decide⟩)]; exact P2⟩, ?_, ?_, ?_⟩
      · unfold pz_L1
        rw [Fk 9 y (Or.inl ⟨by decide, by decide⟩), Fk 10 y (Or.inl ⟨by decide, by decide⟩), a9, a10, pz_rv_0, pz_pt_0, pz_pt_0, Fk 0 y (Or.inl ⟨by decide, by decide⟩), F1, Fk 3 y (Or.inl ⟨by decide, by decide⟩), c0, c1]
        exact s_a
      · intro c hc h
        rw [Fk 2 c (Or.inl ⟨by decide, by decide⟩)]
        rcases h with h | h
        · rw [Fk 0 y (Or.inl ⟨by decide, by decide⟩)] at h
          exact hL3 c hc (Or.inl h)
        · rw [F1] at h
          exact (hl c hc h).2.2
      · unfold pz_L4
        rw [s_a, pz_id_app, pz_id_cons]
        refine ⟨List.nodup_append.mpr ⟨ndA.1, List.nodup_cons.mpr ⟨naC, ?_⟩, ?_⟩, ?_⟩
        · rcases hlP with e | ⟨j, hj, e⟩
          · rw [hC, e, pz_sc_m]
            exact List.nodup_nil
          · rw [hC, e, pz_sc_n hj]
            exact (hI j hj).1.2.2.2.1
        · intro u hu w hw
          rcases List.mem_cons.mp hw with e | e
          · intro z
            rw [e] at z
            have z2 : u = y := z
            rw [z2] at hu
            exact naA hu
          · intro z
            subst z
            obtain ⟨t, ht, e, hm⟩ := Cm u e
            obtain ⟨t1, t2, -⟩ := hl t ht e
            exact t2 (pz_apart hI ht hy t1 ta hm (inA u hu))
        · intro u hu
          rcases List.mem_append.mp hu with e | e
          · exact hL4.2 u (inA u e)
          · rcases List.mem_cons.mp e with e | e
            · rw [e]; exact hy
            · obtain ⟨t, ht, -, hm⟩ := Cm u e
              exact pz_lt24 hI ht hm
    · exact pz_Str_congr (hI y hy).1 (Fk 0 y (Or.inr y1)) (Fk 1 y (Or.inr y1)) (by rw [Fk 2 y (Or.inr y1)]; exact (hI y hy).1.1.2.2) (Fk 3 y (Or.inr y1)) (Fk 9 y (Or.inr y1)) (Fk 10 y (Or.inr y1)) (Fk 11 y (Or.inr y1)) (fun c hc h => ⟨Fk 2 c (Or.inl ⟨by decide, by decide⟩), s_o c (fun z => nta y hy (by rw [← z]; exact h))⟩) (s_o y y1)
  have T2 : ∀ y, y < 24 → y ≠ a → pz_L2 F sv' y := fun y hy y1 =>
    pz_L2_congr (hI y hy).2 (Fk 4 y (Or.inr y1)) (Fk 5 y (Or.inr y1)) (Fk 6 y (Or.inr y1)) (Fk 7 y (Or.inr y1)) (s_o y y1) (fun z hz => Fk 8 z (Or.inr (fun e => out y hy y1 (by rw [← e]; exact hz))))
  have Ta : pz_L2 (pz_gth F a) sv' a := by
    refine pz_gth_L2 (S a ha) (by rw [Fk 9 a (Or.inl ⟨by decide, by decide⟩)]; exact a9) (by rw [Fk 10 a (Or.inl ⟨by decide, by decide⟩)]; exact a10) (fun c hc h => ?_)
    have c1 : c ≠ a := fun z => by
      subst z
      rcases h with h | h
      · rw [Fk 0 c (Or.inl ⟨by decide, by decide⟩)] at h
        exact own c hc (Or.inl h)
      · rw [F1] at h
        exact (hl c hc h).2.1 rfl
    exact ⟨c1, T2 c hc c1⟩
  have K : ∀ k y, k ≠ 4 → k ≠ 5 → k ≠ 6 → k ≠ 7 → pz_gth F a k y = F k y := fun k y h4 h5 h6 h7 => pz_gth_k h4 h5 h6 h7
  have K2 : ∀ y, pz_gth F a 2 y = f 2 y := fun y => by rw [K 2 y (by decide) (by decide) (by decide) (by decide), Fk 2 y (Or.inl ⟨by decide, by decide⟩)]
  have Kco : ∀ x c, x ≠ a → (pz_ch (pz_gth F a) x c ↔ pz_ch f x c) := fun x c h => by
    unfold pz_ch
    rw [K 0 x (by decide) (by decide) (by decide) (by decide), K 1 x (by decide) (by decide) (by decide) (by decide), Fk 0 x (Or.inr h), Fk 1 x (Or.inr h)]
  have Kca : ∀ c, pz_ch (pz_gth F a) a c ↔ f 0 a = nI c ∨ last = nI c := fun c => by
    unfold pz_ch
    rw [K 0 a (by decide) (by decide) (by decide) (by decide), K 1 a (by decide) (by decide) (by decide) (by decide), Fk 0 a (Or.inl ⟨by decide, by decide⟩), F1]
  have tpa : pz_tp (pz_gth F a) a := by
    intro z hz e hc
    rw [K2] at e
    by_cases z1 : z = a
    · subst z1
      rcases (Kca z).mp hc with h | h
      · exact own z hz (Or.inl h)
      · exact (hl z hz h).2.1 rfl
    · exact ta z hz e ((Kco z a z1).mp hc)
  have tpo : ∀ x, x < 24 → pz_tp f x → x ≠ a → last ≠ nI x → pz_tp (pz_gth F a) x := by
    intro x hx tx x1 x2 z hz e hc
    rw [K2] at e
    by_cases z1 : z = a
    · subst z1
      rcases (Kca x).mp hc with h | h
      · exact tx z hz e (Or.inl h)
      · exact x2 h
    · exact tx z hz e ((Kco z x z1).mp hc)
  have tpc : ∀ y, y < 24 → y ≠ a → pz_tp (pz_gth F a) y → (pz_tp f y ∧ last ≠ nI y) ∨ f 1 a = nI y := by
    intro y hy y1 ty
    by_cases t : pz_tp f y
    · refine Or.inl ⟨t, fun e => ?_⟩
      exact ty a ha (by rw [K2]; exact (hl y hy e).2.2) ((Kca y).mpr (Or.inr e))
    · obtain ⟨z, hz, e, hc⟩ := pz_ntp t
      by_cases z1 : z = a
      · subst z1
        rcases hc with h | h
        · exact absurd ((Kca y).mpr (Or.inl h)) (ty z hz (by rw [K2]; exact e))
        · exact Or.inr h
      · exact absurd ((Kco z y z1).mpr hc) (ty z hz (by rw [K2]; exact e))
  have K8 : ∀ y, y ≠ a → pz_gth F a 8 y = f 8 y := fun y h => by rw [K 8 y (by decide) (by decide) (by decide) (by decide), Fk 8 y (Or.inr h)]
  have K8a : pz_gth F a 8 a = f 8 a + pz_hD g B - pz_hD g C := by rw [K 8 a (by decide) (by decide) (by decide) (by decide), F8]
  obtain ⟨Ta1, Ta2, Ta3⟩ := hT a ha ta
  rw [hsv] at Ta1 Ta2 Ta3
  rw [pz_id_app, pz_id_cons] at Ta1
  have CT : pz_Cn g (nI a) (pz_id C) ∧ (∀ q ∈ C, q.2 = g 0 q.1) ∧ pz_Hk g (f 8) C := by
    rcases hlP with e | ⟨j, hj, e⟩
    · rw [hC, e, pz_sc_m]
      exact ⟨trivial, fun q hq => by (cases hq), trivial⟩
    · obtain ⟨t1, t2, t3⟩ := hl j hj e
      rw [hC, e, pz_sc_n hj]
      have h := hT j hj t1
      rw [t3] at h
      exact h
  rw [hG]
  refine ⟨sv', A, B, ?_, ?_, tpa, K2, hsv, ?_, s_o, tpo⟩
  · intro y hy
    refine ⟨pz_gth_Str (S y hy), ?_⟩
    by_cases y1 : y = a
    · subst y1; exact Ta
    · exact pz_gth_L2' y1 (T2 y hy y1)
  · intro x hx tx
    rw [K2]
    by_cases x1 : x = a
    · subst x1
      rw [s_a]
      refine ⟨?_, ?_, ?_⟩
      · rw [pz_id_app, pz_id_cons]
        exact pz_Cn_put Ta1 CT.1
      · intro q hq
        rcases List.mem_append.mp hq with h | h
        · exact Ta2 q (List.mem_append_left _ h)
        · rcases List.mem_cons.mp h with h | h
          · exact Ta2 q (List.mem_append_right _ (by rw [h]; exact List.mem_cons_self))
          · exact CT.2.1 q h
      · refine pz_Hk_put Ta3 (fun y hy => K8 y (fun z => naA (by rw [← z]; exact hy))) ⟨?_, pz_Hk_congr CT.2.2 (fun y hy => K8 y (fun z => naC (by rw [← z]; exact hy)))⟩
        have h1 := (pz_Hk_suf Ta3).1
        show f 3 x + pz_gth F x 8 x + pz_hD g C = pz_D g x
        rw [K8a]
        have h1 : f 3 x + f 8 x + pz_hD g B = pz_D g x := h1
        rw [← h1]
        grind
    · rw [s_o x x1]
      rcases tpc x hx x1 tx with ⟨h, -⟩ | h
      · obtain ⟨u, v, w⟩ := hT x hx h
        exact ⟨u, v, pz_Hk_congr w (fun y hy => K8 y (fun z => out x hx x1 (by rw [← z]; exact hy)))⟩
      · have hBx : B = sv x := by rw [hB, h, pz_sc_n hx]
        have hx2 : f 2 x = nI a := hL3 x hx (Or.inr h)
        rw [← hBx, hx2]
        refine ⟨pz_Cn_suf Ta1, fun q hq => Ta2 q (List.mem_append_right _ (List.mem_cons_of_mem _ hq)), ?_⟩
        exact pz_Hk_congr (pz_Hk_suf Ta3).2 (fun y hy => K8 y (fun z => naB (by rw [← z]; exact hy)))
  · rw [s_a, hC]
/-! expose's loop -/
/-- the first on the node's way that lies in L0 -/
def pz_RS (g : pz_S) (L0 : List Nat) (node : Nat) (r : Int32) : Prop := (∀ y ∈ pz_w g node, y ∉ L0) ∨ ∃ (j : Nat) (X Y : List Nat), j < 24 ∧ r = nI j ∧ j ∈ L0 ∧ pz_w g node = Y ++ j :: X ∧ ∀ y ∈ Y, y ∉ L0
/-- pieces that don't meet the way stay -/
def pz_Fr (f0 : pz_S) (sv0 : pz_V) (g : pz_S) (node : Nat) (f : pz_S) (sv : pz_V) : Prop := ∀ x, x < 24 → pz_tp f0 x → (∀ y ∈ pz_id (sv0 x), y ∉ pz_w g node) → pz_tp f x ∧ sv x = sv0 x ∧ f 2 x = f0 2 x
def pz_Zi (f0 : pz_S) (sv0 : pz_V) (f : pz_S) (sv : pz_V) (last at_ : Int32) : Prop := ∀ x0, x0 < 24 → pz_tp f0 x0 → f0 2 x0 = -1 →
  ((∃ y, y < 24 ∧ pz_tp f y ∧ sv y = sv0 x0 ∧ f 2 y = -1) ∧ ∀ t, t < 24 → last = nI t → ∀ z ∈ pz_id (sv t), z ∉ pz_id (sv0 x0)) ∨
  (at_ = -1 ∧ ∃ (t : Nat) (X Y : List Nat), t < 24 ∧ last = nI t ∧ t ∈ pz_id (sv0 x0) ∧ pz_id (sv t) = X ++ t :: Y ∧ ∀ z ∈ Y, z ∉ pz_id (sv0 x0))
def pz_EI (f0 : pz_S) (sv0 : pz_V) (g : pz_S) (node : Nat) (f : pz_S) (sv : pz_V) (last at_ : Int32) (k : Nat) : Prop :=
  pz_I f sv ∧ pz_T f sv g ∧ ((last = -1 ∧ at_ = nI node ∧ k = 0) ∨ ∃ (t : Nat) (A : List (Nat × Int32)) (v : Int32), t < 24 ∧ last = nI t ∧ pz_tp f t ∧ f 2 t = at_ ∧ sv t = A ++ [(node, v)] ∧ k ≤ (sv t).length) ∧ pz_P at_ ∧ pz_Fr f0 sv0 g node f sv ∧ pz_Zi f0 sv0 f sv last at_
theorem pz_EI_0 {f : pz_S} {sv : pz_V} {g : pz_S} {node : Nat} (hI : pz_I f sv) (hT : pz_T f sv g) (hn : node < 24) : pz_EI f sv g node f sv (-1) (nI node) 0 :=
  ⟨hI, hT, Or.inl ⟨rfl, rfl, rfl⟩, pz_P_n hn, fun x _ tx _ => ⟨tx, rfl, rfl⟩, fun x0 h0 t0 e0 => Or.inl ⟨⟨x0, h0, t0, rfl, e0⟩, fun t ht e => absurd e.symm (pz_nm ht)⟩⟩
/-- the node at which the loop stands lies on the way -/
theorem pz_EI_way {f0 f : pz_S} {sv0 sv : pz_V} {g : pz_S} {node a : Nat} {last : Int32} {k : Nat} (hF : pz_Fo g) (hn : node < 24) (ha : a < 24) (h : pz_EI f0 sv0 g node f sv last (nI a) k) : a ∈ pz_w g node := by
  obtain ⟨hI, hT, hd, -⟩ := h
  rcases hd with ⟨-, e, -⟩ | ⟨t, A, v, ht, -, tt, e2, e3, -⟩
  · rw [pz_inj ha hn e]
    exact pz_w_self hF hn
  · have e4 : pz_id (sv t) = pz_id A ++ node :: [] := by rw [e3, pz_id_app]; rfl
    rw [pz_way hI hT ht tt (la := pz_w g a) (by rw [e2]; exact hF a ha) e4]
    exact List.mem_cons_of_mem _ (List.mem_append_right _ (pz_w_self hF ha))
set_option maxHeartbeats 4000000 in
theorem pz_EI_s {f0 f f1 : pz_S} {sv0 sv sv1 : pz_V} {g : pz_S} {node a : Nat} {last : Int32} {k : Nat} (hI0 : pz_I f0 sv0) (hF : pz_Fo g) (hn : node < 24) (ha : a < 24) (h : pz_EI f0 sv0 g node f sv last (nI a) k) (hL : pz_LP f sv a f1 sv1) :
    ∃ sv2, pz_EI f0 sv0 g node (pz_ex f1 a last) sv2 (nI a) (pz_ex f1 a last 2 a) (k + 1) := by
  have haw := pz_EI_way hF hn ha h
  obtain ⟨hI, hT, hd, hP, hFr, hZ⟩ := h
  obtain ⟨hI1, hR, ta, a9, a10, h8⟩ := hL
  have hT1 := pz_T_TR hT hR h8
  have hlP : pz_P last := by
    rcases hd with ⟨e, -⟩ | ⟨t, -, -, ht, e, -⟩
    · rw [e]; exact pz_P_m
    · rw [e]; exact pz_P_n ht
  have hl : ∀ t, t < 24 → last = nI t → pz_tp f t ∧ f 2 t = nI a ∧ a ∉ pz_id (sv t) ∧ node ∈ pz_id (sv t) ∧ k ≤ (sv t).length ∧ (∃ A v, sv t = A ++ [(node, v)]) := fun t ht e => by
    rcases hd with ⟨e1, -⟩ | ⟨t', A, v, ht', e1, tt, e2, e3, hk⟩
    · exact absurd (e.symm.trans e1) (pz_nm ht)
    · have := pz_inj ht ht' (e.symm.trans e1)
      subst this
      refine ⟨tt, e2, pz_acyc hI hT hF ht ha tt e2, ?_, hk, A, v, e3⟩
      rw [e3, pz_id_app]
      exact List.mem_append_right _ List.mem_cons_self
  have hl1 : ∀ t, t < 24 → last = nI t → pz_tp f1 t ∧ sv1 t = sv t ∧ f1 2 t = nI a ∧ t ≠ a := fun t ht e => by
    obtain ⟨t1, t2, t3, -⟩ := hl t ht e
    obtain ⟨u1, u2, u3⟩ := hR.1 t ht t1 t3
    exact ⟨u1, u2, u3.trans t2, fun z => t3 (by rw [← z]; exact pz_self hI ht)⟩
  obtain ⟨sv2, A, B, g1, g2, g3, g4, g5, g6, g7, g8⟩ := pz_ex_ok hI1 hT1 ha ta a9 a10 hlP (fun t ht e => ⟨(hl1 t ht e).1, (hl1 t ht e).2.2.2, (hl1 t ht e).2.2.1⟩)
  refine ⟨sv2, g1, g2, Or.inr ?_, (g1 a ha).1.1.2.2, ?_, ?_⟩
  · rcases hd with ⟨e, e2, e3⟩ | ⟨t, C, v, ht, e, tt, e2, e3, hk⟩
    · have hna := pz_inj ha hn e2
      refine ⟨a, A, f1 3 a, ha, rfl, g3, rfl, ?_, ?_⟩
      · rw [g6, e, pz_sc_m, hna]
      · rw [e3]
        exact pz_ne g1 ha
    · obtain ⟨-, u2, -⟩ := hl1 t ht e
      refine ⟨a, A ++ (a, f1 3 a) :: C, v, ha, rfl, g3, rfl, ?_, ?_⟩
      · rw [g6, e, pz_sc_n ht, u2, e3, List.append_assoc]
        rfl
      · rw [g6, e, pz_sc_n ht, u2, List.length_append, List.length_cons]
        omega
  · intro x hx tx hd2
    obtain ⟨v1, v2, v3⟩ := hFr x hx tx hd2
    have hax : a ∉ pz_id (sv x) := fun z => hd2 a (by rw [← v2]; exact z) haw
    obtain ⟨w1, w2, w3⟩ := hR.1 x hx v1 hax
    have x1 : x ≠ a := fun z => hax (by rw [← z]; exact pz_self hI hx)
    have x2 : last ≠ nI x := fun e => hd2 node (by rw [← v2]; exact (hl x hx e).2.2.2.1) (pz_w_self hF hn)
    exact ⟨g8 x hx w1 x1 x2, (g7 x x1).trans (w2.trans v2), (g4 x).trans (w3.trans v3)⟩
  · intro x0 h0 t0 e0
    rcases hZ x0 h0 t0 e0 with ⟨⟨y, hy, ty, ey, e2y⟩, hdis⟩ | ⟨e, -⟩
    · by_cases ham : a ∈ pz_id (sv0 x0)
      · refine Or.inr ?_
        obtain ⟨x, hx, tx, ex, e2x⟩ := hR.2.2 y hy ty
        have hxa : a = x := pz_top_mem hI1 hx ta (by rw [ex, ey]; exact ham)
        subst hxa
        refine ⟨by rw [g4, e2x, e2y], a, pz_id A, pz_id (pz_sc sv1 last), ha, rfl, ham, by rw [g6, pz_id_app]; rfl, fun z hz => ?_⟩
        rcases hlP with e | ⟨t, ht, e⟩
        · rw [e, pz_sc_m] at hz
          cases hz
        · rw [e, pz_sc_n ht, (hl1 t ht e).2.1] at hz
          exact hdis t ht e z hz
      · refine Or.inl ?_
        have hay : a ∉ pz_id (sv y) := by rw [ey]; exact ham
        obtain ⟨w1, w2, w3⟩ := hR.1 y hy ty hay
        have y1 : y ≠ a := fun z => hay (by rw [← z]; exact pz_self hI hy)
        have y2 : last ≠ nI y := fun e => hdis y hy e y (pz_self hI hy) (by rw [← ey]; exact pz_self hI hy)
        refine ⟨⟨y, hy, g8 y hy w1 y1 y2, (g7 y y1).trans (w2.trans ey), (g4 y).trans (w3.trans e2y)⟩, fun t ht e z hz hz0 => ?_⟩
        have := pz_inj ha ht e
        subst this
        rw [g6, pz_id_app, pz_id_cons] at hz
        have hz1 : z ∈ pz_id (sv1 y) := by rw [w2, ey]; exact hz0
        have key : z ∈ pz_id (sv1 a) → False := fun h => y1 (pz_apart hI1 hy ha w1 ta hz1 h)
        rcases List.mem_append.mp hz with h | h
        · exact key (by rw [g5, pz_id_app]; exact List.mem_append_left _ h)
        · rcases List.mem_cons.mp h with h | h
          · exact key (by rw [h]; exact pz_self hI1 ha)
          · rcases hlP with e | ⟨t, ht, e⟩
            · rw [e, pz_sc_m] at h
              cases h
            · rw [e, pz_sc_n ht, (hl1 t ht e).2.1] at h
              exact hdis t ht e z h hz0
    · exact absurd e (pz_nm ha)
/-- the loop's bound is enough -/
theorem pz_EI_24 {f0 f : pz_S} {sv0 sv : pz_V} {g : pz_S} {node : Nat} {last at_ : Int32} (hF : pz_Fo g) (h : pz_EI f0 sv0 g node f sv last at_ 24) : at_ = -1 := by
  obtain ⟨hI, hT, hd, hP, -⟩ := h
  rcases hd with ⟨-, -, e⟩ | ⟨t, A, v, ht, e, tt, e2, e3, hk⟩
  · cases e
  · rcases hP with e | ⟨a, ha, e⟩
    · exact e
    · have hna := pz_acyc hI hT hF ht ha tt (e2.trans e)
      have h1 : (a :: pz_id (sv t)).Nodup := List.nodup_cons.mpr ⟨hna, (hI t ht).1.2.2.2.1⟩
      have h3 := List.Nodup.length_le_of_subset (l₂ := List.range 24) h1 (fun y hy => List.mem_range.mpr (by
        rcases List.mem_cons.mp hy with e | e
        · rw [e]; exact ha
        · exact pz_lt24 hI ht e))
      rw [List.length_cons, pz_id_len, List.length_range] at h3
      omega
/-- what expose leaves: the node's way is one piece with the node at its top and nothing deeper in it -/
def pz_X (f : pz_S) (sv : pz_V) (g : pz_S) (node : Nat) : Prop := pz_I f sv ∧ pz_T f sv g ∧ pz_tp f node ∧ f 2 node = -1 ∧ f 1 node = -1 ∧ f 9 node = 0 ∧ f 10 node = 0
def pz_EP (f0 : pz_S) (sv0 : pz_V) (g : pz_S) (node : Nat) (r : Int32) (f : pz_S) (sv : pz_V) : Prop := pz_X f sv g node ∧ pz_Fr f0 sv0 g node f sv ∧ ∀ x0, x0 < 24 → pz_tp f0 x0 → f0 2 x0 = -1 → pz_RS g (pz_id (sv0 x0)) node r
theorem pz_lastmem {l r A : List (Nat × Int32)} {p q : Nat × Int32} (h : l ++ p :: r = A ++ [q]) : r = [] ∨ q ∈ r := by
  have h1 := congrArg List.reverse h
  rw [List.reverse_append, List.reverse_cons, List.reverse_append] at h1
  cases hr : r.reverse with
  | nil =>
    left
    have := congrArg List.reverse hr
    rw [List.reverse_reverse] at this
    exact this
  | cons z s =>
    right
    rw [hr] at h1
    have h2 : z = q := by
      have := congrArg List.head? h1
      simp at this
      exact this
    have : z ∈ r.reverse := by rw [hr]; exact List.mem_cons_self
    rw [h2] at this
    exact List.mem_reverse.mp this
theorem pz_EI_end {f0 f f1 : pz_S} {sv0 sv sv1 : pz_V} {g : pz_S} {node : Nat} {last : Int32} {k : Nat} (hF : pz_Fo g) (hn : node < 24) (h : pz_EI f0 sv0 g node f sv last (-1) k) (hL : pz_LP f sv node f1 sv1) : pz_EP f0 sv0 g node last f1 sv1 := by
  obtain ⟨hI, hT, hd, hP, hFr, hZ⟩ := h
  obtain ⟨hI1, hR, tn, n9, n10, h8⟩ := hL
  have hT1 := pz_T_TR hT hR h8
  rcases hd with ⟨-, e, -⟩ | ⟨t, A, v, ht, e, tt, e2, e3, hk⟩
  · exact absurd e.symm (pz_nm hn)
  obtain ⟨x, hx, tx, ex, e2x⟩ := hR.2.2 t ht tt
  have hnt : node ∈ pz_id (sv t) := by
    rw [e3, pz_id_app]
    exact List.mem_append_right _ List.mem_cons_self
  have hxn : node = x := pz_top_mem hI1 hx tn (by rw [ex]; exact hnt)
  subst hxn
  have e4 : pz_id (sv t) = pz_id A ++ node :: [] := by rw [e3, pz_id_app]; rfl
  have hway : pz_w g node = (pz_id (sv t)).reverse := by
    rw [pz_way hI hT ht tt (la := []) e2 e4, e4, List.append_nil, List.reverse_append]
    rfl
  have h1n : f1 1 node = -1 := by
    obtain ⟨⟨P0, P1, -⟩, hL1, -, -⟩ := (hI1 node hn).1
    have hc := pz_clean hL1 n9 n10
    rw [ex, e3] at hc
    rcases P1 with e | ⟨j, hj, e⟩
    · exact e
    · rw [e, pz_sc_n hj] at hc
      have hne : sv1 j ≠ [] := fun z => by
        have := pz_ne hI1 hj
        rw [z, List.length_nil] at this
        omega
      rcases pz_lastmem hc.symm with z | z
      · exact absurd z hne
      · have h1 := pz_id_mem z
        have h2 := pz_top_mem hI1 hj tn h1
        exact absurd h2.symm (pz_chne hI1 hn hj (Or.inr e))
  refine ⟨⟨hI1, hT1, tn, e2x.trans e2, h1n, n9, n10⟩, fun x hx tx hd2 => ?_, fun x0 h0 t0 e0 => ?_⟩
  · obtain ⟨v1, v2, v3⟩ := hFr x hx tx hd2
    obtain ⟨w1, w2, w3⟩ := hR.1 x hx v1 (fun z => hd2 node (by rw [← v2]; exact z) (pz_w_self hF hn))
    exact ⟨w1, w2.trans v2, w3.trans v3⟩
  · rcases hZ x0 h0 t0 e0 with ⟨-, hdis⟩ | ⟨-, t', X, Y, ht', e', hm, ei, hy⟩
    · left
      intro y hy
      rw [hway] at hy
      exact hdis t ht e y (List.mem_reverse.mp hy)
    · right
      have := pz_inj ht ht' (e.symm.trans e')
      subst this
      refine ⟨t, X.reverse, Y.reverse, ht, e, hm, ?_, fun y hyy => hy y (List.mem_reverse.mp hyy)⟩
      rw [hway, ei, List.reverse_append, List.reverse_cons, List.append_assoc]
      rfl
end
section
/-! PLAIN 8: questions: what the component answers, in the model's words -/
def pz_J (f g : pz_S) : Prop := ∃ sv, pz_I f sv ∧ pz_T f sv g ∧ pz_Fo g
theorem pz_X_l {f : pz_S} {sv : pz_V} {g : pz_S} {n : Nat} (h : pz_X f sv g n) (hn : n < 24) : sv n = pz_sc sv (f 0 n) ++ [(n, f 3 n)] := by
  obtain ⟨hI, -, -, -, h1, h9, h10⟩ := h
  have := pz_clean (hI n hn).1.2.1 h9 h10
  rw [h1, pz_sc_m] at this
  exact this
theorem pz_X_id {f : pz_S} {sv : pz_V} {g : pz_S} {n : Nat} (h : pz_X f sv g n) (hn : n < 24) : pz_id (sv n) = pz_id (pz_sc sv (f 0 n)) ++ n :: [] := by
  rw [pz_X_l h hn, pz_id_app]
  rfl
theorem pz_X_w {f : pz_S} {sv : pz_V} {g : pz_S} {n : Nat} (h : pz_X f sv g n) (hn : n < 24) : pz_w g n = (pz_id (sv n)).reverse := by
  have e := pz_X_id h hn
  obtain ⟨hI, hT, ht, h2, h1, h9, h10⟩ := h
  rw [pz_way hI hT hn ht (la := []) h2 e, e, List.append_nil, List.reverse_append]
  rfl
theorem pz_X_m {f : pz_S} {sv : pz_V} {g : pz_S} {n y : Nat} (h : pz_X f sv g n) (hn : n < 24) : y ∈ pz_w g n ↔ y ∈ pz_id (sv n) := by
  rw [pz_X_w h hn]
  exact List.mem_reverse
theorem pz_hd_id {f : pz_S} {n : Nat} (h9 : f 9 n = 0) (h10 : f 10 n = 0) : pz_hd f n = f := by
  unfold pz_hd
  have e : pz_hT f n = f := if_pos h9
  rw [e]
  exact if_pos h10
/-! root -/
def pz_ro (g : pz_S) (n : Nat) : Nat := ((pz_w g n).getLast?).getD 0
theorem pz_ro_root {g : pz_S} {n : Nat} (hn : n < 24) (h : g 1 n = -1) : pz_ro g n = n := by
  unfold pz_ro
  rw [pz_w_root hn h]
  rfl
theorem pz_ro_par {g : pz_S} (hF : pz_Fo g) {n p : Nat} (hn : n < 24) (hp : p < 24) (h : g 1 n = nI p) : pz_ro g n = pz_ro g p := by
  unfold pz_ro
  rw [pz_w_par hF hn hp h]
  obtain ⟨l, e, -⟩ := pz_w_c hF hp
  rw [e, List.getLast?_cons_cons]
def pz_RI (f : pz_S) (sv : pz_V) (g : pz_S) (x r k : Nat) : Prop := pz_I f sv ∧ pz_T f sv g ∧ x < 24 ∧ f 9 x = 0 ∧ f 10 x = 0 ∧ (pz_id (sv x)).head? = some r ∧ (sv x).length + k ≤ 24
theorem pz_RI_0 {f : pz_S} {sv : pz_V} {g : pz_S} {n : Nat} (h : pz_X f sv g n) (hn : n < 24) : pz_RI f sv g n (pz_ro g n) 0 := by
  have hw := pz_X_w h hn
  have e := pz_X_id h hn
  obtain ⟨hI, hT, ht, h2, h1, h9, h10⟩ := h
  refine ⟨hI, hT, hn, h9, h10, ?_, pz_bd hI hn⟩
  unfold pz_ro
  rw [hw, List.getLast?_reverse]
  cases h : (pz_id (sv n)).head? with
  | none =>
    have := List.head?_eq_none_iff.mp h
    rw [e] at this
    simp at this
  | some r => rfl
theorem pz_RI_s {f : pz_S} {sv : pz_V} {g : pz_S} {x r k c : Nat} (h : pz_RI f sv g x r k) (hc : c < 24) (e : f 0 x = nI c) : ∃ sv', pz_RI (pz_hd f c) sv' g c r (k + 1) := by
  obtain ⟨hI, hT, hx, h9, h10, hr, hl⟩ := h
  have hs := pz_clean (hI x hx).1.2.1 h9 h10
  rw [e, pz_sc_n hc] at hs
  obtain ⟨sv', hR, c9, c10⟩ := pz_hd_ok hI hc
  have hTR := pz_HR_TR 0 hR
  obtain ⟨hI', -, hle, -, -, hsame, h8, -⟩ := hR
  refine ⟨sv', hI', pz_T_TR hT hTR h8, hc, c9, c10, ?_, ?_⟩
  · rw [hsame c hc (Or.inr rfl)]
    rw [hs, pz_id_app] at hr
    cases h : pz_id (sv c) with
    | nil =>
      have := pz_ne hI hc
      rw [← pz_id_len, h] at this
      simp at this
    | cons a l =>
      rw [h] at hr
      exact hr
  · have := (pz_ch_sub hI hx hc (Or.inl e)).1
    rw [hle]
    omega
theorem pz_RI_e {f : pz_S} {sv : pz_V} {g : pz_S} {x r k : Nat} (h : pz_RI f sv g x r k) (e : f 0 x = -1) : r = x := by
  obtain ⟨hI, hT, hx, h9, h10, hr, hl⟩ := h
  have hs := pz_clean (hI x hx).1.2.1 h9 h10
  rw [e, pz_sc_m] at hs
  rw [hs] at hr
  exact (Option.some.inj hr).symm
theorem pz_RI_b {f : pz_S} {sv : pz_V} {g : pz_S} {x r k : Nat} (h : pz_RI f sv g x r k) : k < 24 := by
  obtain ⟨hI, hT, hx, h9, h10, hr, hl⟩ := h
  have := pz_ne hI hx
  omega
/-! parent -/
def pz_QI (f : pz_S) (sv : pz_V) (g : pz_S) (x r k : Nat) : Prop := pz_I f sv ∧ pz_T f sv g ∧ x < 24 ∧ f 9 x = 0 ∧ f 10 x = 0 ∧ (pz_id (sv x)).getLast? = some r ∧ (sv x).length + k ≤ 24
theorem pz_Cn_last {g : pz_S} : ∀ {A : List Nat} {y p : Nat} {a : Int32}, pz_Cn g a (A ++ y :: []) → A.getLast? = some p → g 1 y = nI p := by
  intro A
  induction A with
  | nil => intro y p a h e; cases e
  | cons z A ih =>
    intro y p a h e
    cases A with
    | nil =>
      have : z = p := Option.some.inj e
      rw [← this]
      exact h.2.1
    | cons w A =>
      rw [List.getLast?_cons_cons] at e
      exact ih h.2 e
/-- the node above: none where the piece has no left part, else the last of it -/
theorem pz_X_p0 {f : pz_S} {sv : pz_V} {g : pz_S} {n : Nat} (h : pz_X f sv g n) (hn : n < 24) (e : f 0 n = -1) : g 1 n = -1 := by
  have e1 := pz_X_id h hn
  obtain ⟨hI, hT, ht, h2, h1, h9, h10⟩ := h
  rw [e, pz_sc_m] at e1
  have h3 := (hT n hn ht).1
  rw [e1, h2] at h3
  exact h3.1
theorem pz_X_p1 {f : pz_S} {sv : pz_V} {g : pz_S} {n c : Nat} (h : pz_X f sv g n) (hn : n < 24) (hc : c < 24) (e : f 0 n = nI c) : ∃ p, p < 24 ∧ g 1 n = nI p ∧ (pz_id (sv c)).getLast? = some p := by
  have e1 := pz_X_id h hn
  obtain ⟨hI, hT, ht, h2, h1, h9, h10⟩ := h
  rw [e, pz_sc_n hc] at e1
  have h3 := (hT n hn ht).1
  rw [e1, h2] at h3
  cases h : (pz_id (sv c)).getLast? with
  | none =>
    have := List.getLast?_eq_none_iff.mp h
    have h4 := pz_ne hI hc
    rw [← pz_id_len, this] at h4
    simp at h4
  | some p => exact ⟨p, pz_lt24 hI hc (List.mem_of_getLast? h), pz_Cn_last h3 h, rfl⟩
theorem pz_QI_0 {f : pz_S} {sv : pz_V} {g : pz_S} {n c : Nat} (h : pz_X f sv g n) (hn : n < 24) (hc : c < 24) (e : f 0 n = nI c) : ∃ sv' p, p < 24 ∧ g 1 n = nI p ∧ pz_QI (pz_hd f c) sv' g c p 0 := by
  obtain ⟨p, hp, e1, e2⟩ := pz_X_p1 h hn hc e
  obtain ⟨hI, hT, ht, h2, h1, h9, h10⟩ := h
  obtain ⟨sv', hR, c9, c10⟩ := pz_hd_ok hI hc
  have hTR := pz_HR_TR 0 hR
  obtain ⟨hI', -, hle, -, -, hsame, h8, -⟩ := hR
  refine ⟨sv', p, hp, e1, hI', pz_T_TR hT hTR h8, hc, c9, c10, ?_, pz_bd hI' hc⟩
  rw [hsame c hc (Or.inr rfl)]
  exact e2
theorem pz_QI_s {f : pz_S} {sv : pz_V} {g : pz_S} {x r k c : Nat} (h : pz_QI f sv g x r k) (hc : c < 24) (e : f 1 x = nI c) : ∃ sv', pz_QI (pz_hd f c) sv' g c r (k + 1) := by
  obtain ⟨hI, hT, hx, h9, h10, hr, hl⟩ := h
  have hs := pz_clean (hI x hx).1.2.1 h9 h10
  rw [e, pz_sc_n hc] at hs
  obtain ⟨sv', hR, c9, c10⟩ := pz_hd_ok hI hc
  have hTR := pz_HR_TR 0 hR
  obtain ⟨hI', -, hle, -, -, hsame, h8, -⟩ := hR
  refine ⟨sv', hI', pz_T_TR hT hTR h8, hc, c9, c10, ?_, ?_⟩
  · rw [hsame c hc (Or.inr rfl)]
    rw [hs, pz_id_app, pz_id_cons, List.getLast?_append] at hr
    cases h : pz_id (sv c) with
    | nil =>
      have := pz_ne hI hc
      rw [← pz_id_len, h] at this
      simp at this
    | cons a l =>
      rw [h, List.getLast?_cons_cons] at hr
      cases h2 : (a :: l).getLast? with
      | none => exact absurd (List.getLast?_eq_none_iff.mp h2) (by simp)
      | some z =>
        rw [h2] at hr
        exact hr
  · have := (pz_ch_sub hI hx hc (Or.inr e)).1
    rw [hle]
    omega
theorem pz_QI_e {f : pz_S} {sv : pz_V} {g : pz_S} {x r k : Nat} (h : pz_QI f sv g x r k) (e : f 1 x = -1) : r = x := by
  obtain ⟨hI, hT, hx, h9, h10, hr, hl⟩ := h
  have hs := pz_clean (hI x hx).1.2.1 h9 h10
  rw [e, pz_sc_m] at hs
  rw [hs, pz_id_app, List.getLast?_append] at hr
  exact (Option.some.inj hr).symm
theorem pz_QI_b {f : pz_S} {sv : pz_V} {g : pz_S} {x r k : Nat} (h : pz_QI f sv g x r k) : k < 24 := by
  obtain ⟨hI, hT, hx, h9, h10, hr, hl⟩ := h
  have := pz_ne hI hx
  omega
/-! sums over the way -/
def pz_sl (v : Nat → Int32) : List Nat → Int32
  | [] => 0
  | n :: l => v n + pz_sl v l
theorem pz_sl_app (v : Nat → Int32) (a b : List Nat) : pz_sl v (a ++ b) = pz_sl v a + pz_sl v b := by
  induction a with
  | nil => simp [pz_sl]
  | cons q a ih =>
    rw [List.cons_append]
    simp only [pz_sl]
    rw [ih, Int32.add_assoc]
theorem pz_sl_rev (v : Nat → Int32) (l : List Nat) : pz_sl v l.reverse = pz_sl v l := by
  induction l with
  | nil => rfl
  | cons q l ih =>
    rw [List.reverse_cons, pz_sl_app, ih]
    simp only [pz_sl]
    grind
theorem pz_sl_id (v : Nat → Int32) (l : List (Nat × Int32)) (h : ∀ q ∈ l, q.2 = v q.1) : pz_sm Prod.snd l = pz_sl v (pz_id l) := by
  induction l with
  | nil => rfl
  | cons q l ih =>
    rw [pz_id_cons]
    simp only [pz_sm, pz_sl]
    rw [h q List.mem_cons_self, ih (fun r hr => h r (List.mem_cons_of_mem _ hr))]
theorem pz_X_size {f : pz_S} {sv : pz_V} {g : pz_S} {n : Nat} (h : pz_X f sv g n) (hn : n < 24) : f 4 n = nI (pz_w g n).length := by
  rw [pz_X_w h hn, List.length_reverse, pz_id_len]
  exact (h.1 n hn).2.1
theorem pz_X_sum {f : pz_S} {sv : pz_V} {g : pz_S} {n : Nat} (h : pz_X f sv g n) (hn : n < 24) : f 5 n = pz_sl (g 0) (pz_w g n) := by
  rw [pz_X_w h hn, pz_sl_rev, (h.1 n hn).2.2.1]
  exact pz_sl_id (g 0) _ (h.2.1 n hn h.2.2.1).2.1
/-- m is the least value on the way -/
def pz_lw (g : pz_S) (l : List Nat) (m : Int32) : Prop := (∃ y ∈ l, g 0 y = m) ∧ ∀ y ∈ l, m ≤ g 0 y
theorem pz_lw_uniq {g : pz_S} {l : List Nat} {a b : Int32} (h1 : pz_lw g l a) (h2 : pz_lw g l b) : a = b := by
  obtain ⟨⟨q, hq, e⟩, u⟩ := h1
  obtain ⟨⟨r, hr, e'⟩, v⟩ := h2
  refine Int32.le_antisymm ?_ ?_
  · rw [← e']; exact u r hr
  · rw [← e]; exact v q hq
theorem pz_X_least {f : pz_S} {sv : pz_V} {g : pz_S} {n : Nat} (h : pz_X f sv g n) (hn : n < 24) : pz_lw g (pz_w g n) (f 6 n) := by
  obtain ⟨⟨q, hq, e⟩, u⟩ := (h.1 n hn).2.2.2.1
  have hv := (h.2.1 n hn h.2.2.1).2.1
  refine ⟨⟨q.1, (pz_X_m h hn).mpr (pz_id_mem hq), by rw [← hv q hq, e]⟩, fun y hy => ?_⟩
  obtain ⟨r, hr, er⟩ := pz_id_of ((pz_X_m h hn).mp hy)
  rw [← er, ← hv r hr]
  exact u r hr
theorem pz_X_part {f : pz_S} {sv : pz_V} {g : pz_S} {n : Nat} (h : pz_X f sv g n) (hn : n < 24) : f 3 n + f 8 n = pz_D g n := by
  have h1 := (h.2.1 n hn h.2.2.1).2.2
  rw [pz_X_l h hn] at h1
  have h2 := (pz_Hk_suf h1).1
  simp only [pz_hD] at h2
  rw [← h2]
  simp
/-! meeting: the order along a way -/
theorem pz_w_anti {g : pz_S} (hF : pz_Fo g) {x y : Nat} (hx : x < 24) (hy : y < 24) (h1 : x ∈ pz_w g y) (h2 : y ∈ pz_w g x) : x = y := by
  obtain ⟨a, ea⟩ := pz_w_suf hF hy h1
  obtain ⟨b, eb⟩ := pz_w_suf hF hx h2
  have h3 := congrArg List.length ea
  have h4 := congrArg List.length eb
  rw [List.length_append] at h3 h4
  have h5 : a = [] := List.length_eq_zero_iff.mp (by omega)
  rw [h5, List.nil_append] at ea
  obtain ⟨l, el, -⟩ := pz_w_c hF hx
  obtain ⟨m, em, -⟩ := pz_w_c hF hy
  rw [el, em] at ea
  exact (List.cons.inj ea).1.symm
theorem pz_w_cmp {g : pz_S} (hF : pz_Fo g) {n x y : Nat} (hn : n < 24) (h1 : x ∈ pz_w g n) (h2 : y ∈ pz_w g n) : x ∈ pz_w g y ∨ y ∈ pz_w g x := by
  obtain ⟨a, ea⟩ := pz_w_suf hF hn h1
  obtain ⟨b, eb⟩ := pz_w_suf hF hn h2
  have hx := pz_w_lt hF hn h1
  have hy := pz_w_lt hF hn h2
  rcases List.suffix_or_suffix_of_suffix (l₁ := pz_w g x) (l₂ := pz_w g y) (l₃ := pz_w g n) ⟨a, ea.symm⟩ ⟨b, eb.symm⟩ with h | h
  · exact Or.inl (h.mem (pz_w_self hF hx))
  · exact Or.inr (h.mem (pz_w_self hF hy))
/-- the first on a list that is in another -/
def pz_fi (l m : List Nat) : Int32 := match l.find? (fun y => decide (y ∈ m)) with
  | none => -1
  | some y => nI y
theorem pz_fi_n {l m : List Nat} (h : ∀ y ∈ l, y ∉ m) : pz_fi l m = -1 := by
  unfold pz_fi
  have : l.find? (fun y => decide (y ∈ m)) = none := List.find?_eq_none.mpr (fun y hy => by simp [h y hy])
  rw [this]
theorem pz_fi_s {Y X m : List Nat} {j : Nat} (h : ∀ y ∈ Y, y ∉ m) (hj : j ∈ m) : pz_fi (Y ++ j :: X) m = nI j := by
  unfold pz_fi
  have : (Y ++ j :: X).find? (fun y => decide (y ∈ m)) = some j := by
    rw [List.find?_append]
    have h1 : Y.find? (fun y => decide (y ∈ m)) = none := List.find?_eq_none.mpr (fun y hy => by simp [h y hy])
    rw [h1]
    simp [hj]
  rw [this]
/-- the first on b's way that is on a's way is the first on a's way that is on b's way -/
theorem pz_fi_sym {g : pz_S} (hF : pz_Fo g) {a b : Nat} (ha : a < 24) (hb : b < 24) : pz_fi (pz_w g a) (pz_w g b) = pz_fi (pz_w g b) (pz_w g a) := by
  have key : ∀ a b, a < 24 → b < 24 → ∀ r, (pz_w g a).find? (fun y => decide (y ∈ pz_w g b)) = some r → r ∈ pz_w g a ∧ r ∈ pz_w g b ∧ ∀ s, s ∈ pz_w g a → s ∈ pz_w g b → s ∈ pz_w g r := by
    intro a b ha hb r hr
    have h1 := List.find?_some hr
    have h1 : r ∈ pz_w g b := by simpa using h1
    have h2 := List.mem_of_find?_eq_some hr
    refine ⟨h2, h1, fun s hs1 hs2 => ?_⟩
    rcases pz_w_cmp hF ha hs1 h2 with h | h
    · exact h
    · obtain ⟨A, eA⟩ := pz_w_suf hF ha h2
      obtain ⟨-, as, bs, e, hno⟩ := List.find?_eq_some_iff_append.mp hr
      -- s at or before r
      have hnd := pz_W_nd (hF a ha)
      have e2 : as ++ r :: bs = as ++ pz_w g r := by
        have h3 := pz_W_w (pz_W_sub (by rw [← e]; exact hF a ha))
        rw [h3]
      by_cases hsr : s ∈ as
      · have := hno s hsr
        simp [hs2] at this
      · rw [e, e2] at hs1
        rcases List.mem_append.mp hs1 with h4 | h4
        · exact absurd h4 hsr
        · exact h4
  unfold pz_fi
  cases h1 : (pz_w g a).find? (fun y => decide (y ∈ pz_w g b)) with
  | none =>
    cases h2 : (pz_w g b).find? (fun y => decide (y ∈ pz_w g a)) with
    | none => rfl
    | some s =>
      obtain ⟨k1, k2, -⟩ := key b a hb ha s h2
      have := List.find?_eq_none.mp h1 s k2
      simp [k1] at this
  | some r =>
    obtain ⟨j1, j2, j3⟩ := key a b ha hb r h1
    cases h2 : (pz_w g b).find? (fun y => decide (y ∈ pz_w g a)) with
    | none =>
      have := List.find?_eq_none.mp h2 r j2
      simp [j1] at this
    | some s =>
      obtain ⟨k1, k2, k3⟩ := key b a hb ha s h2
      have h3 := j3 s k2 k1
      have h4 := k3 r j2 j1
      have := pz_w_anti hF (pz_w_lt hF ha j1) (pz_w_lt hF ha k2) h4 h3
      rw [this]
/-- what expose(b) answers behind expose(a) -/
theorem pz_meet {f f' : pz_S} {sv sv' : pz_V} {g : pz_S} {a b : Nat} {r : Int32} (hF : pz_Fo g) (ha : a < 24) (hb : b < 24) (h : pz_X f sv g a) (h' : pz_EP f sv g b r f' sv') (hro : pz_ro g a = pz_ro g b) : r = pz_fi (pz_w g a) (pz_w g b) := by
  have hm : ∀ y, y ∈ pz_w g a ↔ y ∈ pz_id (sv a) := fun y => pz_X_m h ha
  rw [pz_fi_sym hF ha hb]
  rcases h'.2.2 a ha h.2.2.1 h.2.2.2.1 with h1 | ⟨j, X, Y, hj, e, hj0, ew, hY⟩
  · have hra : pz_ro g a ∈ pz_w g a := by
      unfold pz_ro
      cases hl : (pz_w g a).getLast? with
      | none =>
        have := List.getLast?_eq_none_iff.mp hl
        have h2 := pz_w_self hF ha
        rw [this] at h2
        cases h2
      | some z => exact List.mem_of_getLast? hl
    have hrb : pz_ro g b ∈ pz_w g b := by
      unfold pz_ro
      cases hl : (pz_w g b).getLast? with
      | none =>
        have := List.getLast?_eq_none_iff.mp hl
        have h2 := pz_w_self hF hb
        rw [this] at h2
        cases h2
      | some z => exact List.mem_of_getLast? hl
    rw [hro] at hra
    exact absurd ((hm _).mp hra) (h1 _ hrb)
  · rw [e, ew, pz_fi_s (fun y hy hya => hY y hy ((hm y).mp hya)) ((hm j).mpr hj0)]
/-- trees apart: no meeting -/
theorem pz_ro_on {g : pz_S} (hF : pz_Fo g) {n y : Nat} (hn : n < 24) (hy : y ∈ pz_w g n) : pz_ro g y = pz_ro g n := by
  obtain ⟨a, e⟩ := pz_w_suf hF hn hy
  unfold pz_ro
  rw [e, List.getLast?_append]
  cases hl : (pz_w g y).getLast? with
  | none =>
    have := List.getLast?_eq_none_iff.mp hl
    have h2 := pz_w_self hF (pz_w_lt hF hn hy)
    rw [this] at h2
    cases h2
  | some z => rfl
theorem pz_meet_no {g : pz_S} (hF : pz_Fo g) {a b : Nat} (ha : a < 24) (hb : b < 24) (h : pz_ro g a ≠ pz_ro g b) : pz_fi (pz_w g a) (pz_w g b) = -1 :=
  pz_fi_n (fun y h1 h2 => h ((pz_ro_on hF ha h1).symm.trans (pz_ro_on hF hb h2)))
end
section
/-! PLAIN 9: set, paint -/
theorem pz_wf_congr {g g' : pz_S} (h : ∀ y, g' 1 y = g 1 y) : ∀ (k : Nat) (x : Int32), pz_wf g' k x = pz_wf g k x := by
  intro k
  induction k with
  | zero => intro x; rfl
  | succ k ih =>
    intro x
    simp only [pz_wf]
    rw [h, ih]
theorem pz_w_congr {g g' : pz_S} (h : ∀ y, g' 1 y = g 1 y) (n : Nat) : pz_w g' n = pz_w g n := pz_wf_congr h 24 _
theorem pz_W_congr {g g' : pz_S} : ∀ {l : List Nat} {x : Int32}, (∀ y ∈ l, g' 1 y = g 1 y) → pz_W g l x → pz_W g' l x := by
  intro l
  induction l with
  | nil => intro x _ h; exact h
  | cons n l ih =>
    intro x he h
    exact ⟨h.1, h.2.1, by rw [he n List.mem_cons_self]; exact ih (fun y hy => he y (List.mem_cons_of_mem _ hy)) h.2.2⟩
theorem pz_Fo_congr {g g' : pz_S} (h : ∀ y, g' 1 y = g 1 y) (hF : pz_Fo g) : pz_Fo g' := fun n hn => by
  rw [pz_w_congr h]
  exact pz_W_congr (fun y _ => h y) (hF n hn)
theorem pz_Cn_congr {g g' : pz_S} : ∀ {l : List Nat} {a : Int32}, (∀ y ∈ l, g' 1 y = g 1 y) → pz_Cn g a l → pz_Cn g' a l := by
  intro l
  induction l with
  | nil => intro a _ _; trivial
  | cons n l ih =>
    intro a he h
    exact ⟨by rw [he n List.mem_cons_self]; exact h.1, ih (fun y hy => he y (List.mem_cons_of_mem _ hy)) h.2⟩
/-- how the sum under y changes with the values -/
theorem pz_D_val {g g' : pz_S} (h : ∀ y, g' 1 y = g 1 y) (y : Nat) : pz_D g' y = pz_D g y + pz_su (fun k => if y ∈ pz_w g k then g' 0 k - g 0 k else 0) 24 := by
  unfold pz_D
  rw [← pz_su_add]
  refine pz_su_congr (fun j _ => ?_)
  rw [pz_w_congr h]
  by_cases hy : y ∈ pz_w g j
  · rw [if_pos hy, if_pos hy, if_pos hy]
    grind
  · rw [if_neg hy, if_neg hy, if_neg hy]
    simp
section
variable {g g' : pz_S} {n : Nat}
/-- off the way nothing changes -/
theorem pz_D_off (hF : pz_Fo g) (hn : n < 24) (h1 : ∀ y, g' 1 y = g 1 y) (h0 : ∀ y, y ∉ pz_w g n → g' 0 y = g 0 y) {y : Nat} (hy : y ∉ pz_w g n) : pz_D g' y = pz_D g y := by
  rw [pz_D_val h1 y, pz_su_congr (w' := fun _ => 0) (fun k hk => ?_), pz_su_0]
  · simp
  · by_cases hyk : y ∈ pz_w g k
    · rw [if_pos hyk, h0 k (fun hkn => hy (pz_w_tr hF hn hkn hyk))]
      grind
    · rw [if_neg hyk]
/-- on the way: from a node to the next deeper one -/
theorem pz_D_next (hF : pz_Fo g) (hn : n < 24) (h1 : ∀ y, g' 1 y = g 1 y) (h0 : ∀ y, y ∉ pz_w g n → g' 0 y = g 0 y) {y z : Nat} (hz : z ∈ pz_w g n) (hy : y < 24) (e : g 1 z = nI y) : pz_D g' y + pz_D g z + g 0 y = pz_D g' z + pz_D g y + g' 0 y := by
  have hz24 := pz_w_lt hF hn hz
  have ew := pz_w_par hF hz24 hy e
  have hyz : y ∈ pz_w g z := by rw [ew]; exact List.mem_cons_of_mem _ (pz_w_self hF hy)
  have nzy : z ∉ pz_w g y := fun h => by
    have h2 := pz_W_nd (hF z hz24)
    rw [ew] at h2
    exact (List.nodup_cons.mp h2).1 h
  have key : pz_su (fun k => if y ∈ pz_w g k then g' 0 k - g 0 k else 0) 24 = pz_su (fun k => if k = y then g' 0 y - g 0 y else 0) 24 + pz_su (fun k => if z ∈ pz_w g k then g' 0 k - g 0 k else 0) 24 := by
    rw [← pz_su_add]
    refine pz_su_congr (fun k hk => ?_)
    by_cases hky : k = y
    · subst hky
      rw [if_pos (pz_w_self hF hk), if_pos rfl, if_neg nzy]
      simp
    · rw [if_neg hky]
      by_cases hkn : k ∈ pz_w g n
      · by_cases hyk : y ∈ pz_w g k
        · have hzk : z ∈ pz_w g k := by
            rcases pz_w_cmp hF hn hz hkn with h | h
            · exact h
            · rw [ew] at h
              rcases List.mem_cons.mp h with h | h
              · rw [h]; exact pz_w_self hF hz24
              · exact absurd (pz_w_anti hF hk hy h hyk) hky
          rw [if_pos hyk, if_pos hzk]
          simp
        · have hzk : z ∉ pz_w g k := fun h => hyk (pz_w_tr hF hk h hyz)
          rw [if_neg hyk, if_neg hzk]
          simp
      · rw [h0 k hkn]
        simp
  rw [pz_D_val h1 y, pz_D_val h1 z, key, pz_su_one, if_pos hy]
  grind
/-- at the way's first node -/
theorem pz_D_at (hF : pz_Fo g) (hn : n < 24) (h1 : ∀ y, g' 1 y = g 1 y) (h0 : ∀ y, y ∉ pz_w g n → g' 0 y = g 0 y) : pz_D g' n + g 0 n = pz_D g n + g' 0 n := by
  have key : pz_su (fun k => if n ∈ pz_w g k then g' 0 k - g 0 k else 0) 24 = pz_su (fun k => if k = n then g' 0 n - g 0 n else 0) 24 := by
    refine pz_su_congr (fun k hk => ?_)
    by_cases hky : k = n
    · subst hky
      rw [if_pos (pz_w_self hF hk), if_pos rfl]
    · rw [if_neg hky]
      by_cases hnk : n ∈ pz_w g k
      · by_cases hkn : k ∈ pz_w g n
        · exact absurd (pz_w_anti hF hk hn hkn hnk) hky
        · rw [if_pos hnk, h0 k hkn]
          grind
      · rw [if_neg hnk]
  rw [pz_D_val h1 n, key, pz_su_one, if_pos hn]
  grind
theorem pz_Hk_re (hF : pz_Fo g) (hn : n < 24) (h1 : ∀ y, g' 1 y = g 1 y) (h0 : ∀ y, y ∉ pz_w g n → g' 0 y = g 0 y) {h : Nat → Int32} : ∀ {L L' : List (Nat × Int32)} {a : Int32}, pz_Hk g h L → pz_Cn g a (pz_id L) → pz_id L' = pz_id L → (∀ q ∈ L, q.2 = g 0 q.1) → (∀ q ∈ L', q.2 = g' 0 q.1) → (∀ y ∈ pz_id L, y ∈ pz_w g n) → (∀ y, (pz_id L).getLast? = some y → y = n) → pz_Hk g' h L' := by
  intro L
  induction L with
  | nil =>
    intro L' a _ _ e _ _ _ _
    cases L' with
    | nil => trivial
    | cons q L' => cases e
  | cons q L ih =>
    intro L' a hk hc e hv hv' hw hl
    cases L' with
    | nil => cases e
    | cons q' L' =>
      obtain ⟨e1, e2⟩ := List.cons.inj e
      have e1 : q'.1 = q.1 := e1
      have e2 : pz_id L' = pz_id L := e2
      have hq := hv q List.mem_cons_self
      have hq' := hv' q' List.mem_cons_self
      have hq24 : q.1 < 24 := pz_w_lt hF hn (hw q.1 (by rw [pz_id_cons]; exact List.mem_cons_self))
      cases L with
      | nil =>
        cases L' with
        | cons r L' => cases e2
        | nil =>
          have hqn : q.1 = n := hl q.1 rfl
          refine ⟨?_, trivial⟩
          have k1 := hk.1
          simp only [pz_hD] at k1 ⊢
          rw [hq', e1]
          rw [hq] at k1
          have k2 := pz_D_at hF hn h1 h0
          rw [hqn] at k1 ⊢
          grind
      | cons r L =>
        cases L' with
        | nil => cases e2
        | cons r' L' =>
          have e3 : r'.1 = r.1 := (List.cons.inj e2).1
          refine ⟨?_, ih hk.2 hc.2 e2 (fun x hx => hv x (List.mem_cons_of_mem _ hx)) (fun x hx => hv' x (List.mem_cons_of_mem _ hx)) (fun y hy => hw y (List.mem_cons_of_mem _ hy)) (fun y hy => hl y (by rw [pz_id_cons, pz_id_cons, List.getLast?_cons_cons]; exact hy))⟩
          have k1 := hk.1
          simp only [pz_hD] at k1 ⊢
          have k2 := pz_D_next (z := r.1) (y := q.1) hF hn h1 h0 (hw r.1 (by rw [pz_id_cons, pz_id_cons]; exact List.mem_cons_of_mem _ List.mem_cons_self)) hq24 hc.2.1
          rw [hq', e1, e3]
          rw [hq] at k1
          grind
end
/-- new values on the way of n -/
theorem pz_T_re {f f' : pz_S} {sv sv' : pz_V} {g g' : pz_S} {n : Nat} (hX : pz_X f sv g n) (hF : pz_Fo g) (hn : n < 24) (h1 : ∀ y, g' 1 y = g 1 y) (h0 : ∀ y, y ∉ pz_w g n → g' 0 y = g 0 y)
    (ht : ∀ x, x < 24 → (pz_tp f' x ↔ pz_tp f x)) (h2 : ∀ x, f' 2 x = f 2 x) (h8 : ∀ x, f' 8 x = f 8 x) (hs : ∀ x, x ≠ n → sv' x = sv x) (hi : pz_id (sv' n) = pz_id (sv n)) (hv : ∀ q ∈ sv' n, q.2 = g' 0 q.1) : pz_T f' sv' g' := by
  have hid := pz_X_id hX hn
  have hXm : ∀ y, y ∈ pz_w g n ↔ y ∈ pz_id (sv n) := fun y => pz_X_m hX hn
  obtain ⟨hI, hT, tn, -⟩ := hX
  intro x hx tx
  have tx := (ht x hx).mp tx
  obtain ⟨a, b, c⟩ := hT x hx tx
  rw [h2]
  by_cases hxn : x = n
  · subst hxn
    refine ⟨by rw [hi]; exact pz_Cn_congr (fun y _ => h1 y) a, hv, ?_⟩
    refine pz_Hk_congr (h := f 8) (pz_Hk_re hF hn h1 h0 c a hi b hv (fun y hy => (hXm y).mpr hy) (fun y hy => ?_)) (fun y _ => h8 y)
    rw [hid, List.getLast?_append] at hy
    exact (Option.some.inj hy).symm
  · have off : ∀ y, y ∈ pz_id (sv x) → y ∉ pz_w g n := fun y hy hyn => hxn (pz_apart hI hx hn tx tn hy ((hXm y).mp hyn))
    rw [hs x hxn]
    refine ⟨pz_Cn_congr (fun y _ => h1 y) a, fun q hq => by rw [h0 q.1 (off _ (pz_id_mem hq))]; exact b q hq, ?_⟩
    have key : ∀ L : List (Nat × Int32), (∀ y ∈ pz_id L, y ∉ pz_w g n) → pz_Hk g (f 8) L → pz_Hk g' (f' 8) L := by
      intro L
      induction L with
      | nil => intro _ _; trivial
      | cons q L ih =>
        intro hL hk
        refine ⟨?_, ih (fun y hy => hL y (List.mem_cons_of_mem _ hy)) hk.2⟩
        have e1 := pz_D_off hF hn h1 h0 (hL q.1 (by rw [pz_id_cons]; exact List.mem_cons_self))
        have e2 : pz_hD g' L = pz_hD g L := by
          cases L with
          | nil => rfl
          | cons r L => exact pz_D_off hF hn h1 h0 (hL r.1 (by rw [pz_id_cons, pz_id_cons]; exact List.mem_cons_of_mem _ List.mem_cons_self))
        rw [h8, e1, e2]
        exact hk.1
    exact key _ off c
/-- set -/
theorem pz_set_ok {f : pz_S} {sv : pz_V} {g : pz_S} {n : Nat} {v : Int32} (hX : pz_X f sv g n) (hF : pz_Fo g) (hn : n < 24) : pz_J (pz_gth (pz_fu f 3 n v) n) (pz_fu g 0 n v) := by
  have hX0 := hX
  have hl := pz_X_l hX hn
  obtain ⟨hI, hT, tn, h2, h1, h9, h10⟩ := hX
  obtain ⟨sv', hs'⟩ : ∃ sv' : pz_V, sv' = fun y => if y = n then pz_sc sv (f 0 n) ++ [(n, v)] else sv y := ⟨_, rfl⟩
  have s_n : sv' n = pz_sc sv (f 0 n) ++ [(n, v)] := by rw [hs']; exact if_pos rfl
  have s_o : ∀ x, x ≠ n → sv' x = sv x := fun x h => by rw [hs']; exact if_neg h
  have hid : pz_id (sv' n) = pz_id (sv n) := by
    rw [s_n, hl, pz_id_app, pz_id_app]
    rfl
  have Fk : ∀ k y, k ≠ 3 → pz_fu f 3 n v k y = f k y := fun k y h => pz_fu_k h
  have Fi : ∀ k y, y ≠ n → pz_fu f 3 n v k y = f k y := fun k y h => pz_fu_i h
  have own : ∀ c, c < 24 → pz_ch f n c → c ≠ n := fun c hc h => pz_chne hI hn hc h
  have S : ∀ y, y < 24 → pz_Str (pz_fu f 3 n v) sv' y := by
    intro y hy
    by_cases y1 : y = n
    · subst y1
      obtain ⟨⟨P0, P1, P2⟩, hL1, hL3, hL4⟩ := (hI y hy).1
      refine ⟨⟨by rw [Fk 0 y (by decide)]; exact P0, by rw [Fk 1 y (by decide)]; exact P1, by rw [Fk 2 y (by decide)]; exact P2⟩, ?_, ?_, ?_⟩
      · unfold pz_L1
        rw [Fk 9 y (by decide), Fk 10 y (by decide), h9, h10, pz_rv_0, pz_pt_0, pz_pt_0, pz_fu_s, Fk 0 y (by decide), Fk 1 y (by decide), h1, pz_sc_m, pz_sc_congr P0 (fun j hj z => s_o j (own j hj (Or.inl z)))]
        exact s_n
      · intro c hc h
        rw [Fk 2 c (by decide)]
        exact hL3 c hc h
      · unfold pz_L4
        rw [hid]
        exact hL4
    · exact pz_Str_congr (hI y hy).1 (Fi 0 y y1) (Fi 1 y y1) (by rw [Fi 2 y y1]; exact (hI y hy).1.1.2.2) (Fi 3 y y1) (Fi 9 y y1) (Fi 10 y y1) (Fi 11 y y1) (fun c hc h => ⟨Fk 2 c (by decide), s_o c (fun z => pz_chtp hI hy hc h (by rw [z]; exact tn))⟩) (s_o y y1)
  have T2 : ∀ y, y < 24 → y ≠ n → pz_L2 (pz_fu f 3 n v) sv' y := fun y hy y1 => pz_L2_congr (hI y hy).2 (Fi 4 y y1) (Fi 5 y y1) (Fi 6 y y1) (Fi 7 y y1) (s_o y y1) (fun z _ => Fk 8 z (by decide))
  have K : ∀ k y, k ≠ 4 → k ≠ 5 → k ≠ 6 → k ≠ 7 → k ≠ 3 → pz_gth (pz_fu f 3 n v) n k y = f k y := fun k y h4 h5 h6 h7 h3 => by rw [pz_gth_k h4 h5 h6 h7, Fk k y h3]
  have g1 : ∀ y, pz_fu g 0 n v 1 y = g 1 y := fun y => pz_fu_k (by decide)
  refine ⟨sv', ?_, ?_, pz_Fo_congr g1 hF⟩
  · intro y hy
    refine ⟨pz_gth_Str (S y hy), ?_⟩
    by_cases y1 : y = n
    · subst y1
      exact pz_gth_L2 (S y hy) (by rw [Fk 9 y (by decide)]; exact h9) (by rw [Fk 10 y (by decide)]; exact h10) (fun c hc h => ⟨own c hc h, T2 c hc (own c hc h)⟩)
    · exact pz_gth_L2' y1 (T2 y hy y1)
  · refine pz_T_re hX0 hF hn g1 (fun y hy => pz_fu_i (fun z => hy (by rw [z]; exact pz_w_self hF hn))) (fun x _ => pz_tp_congr (fun y => K 2 y (by decide) (by decide) (by decide) (by decide) (by decide)) (fun x c => ?_) x) (fun y => K 2 y (by decide) (by decide) (by decide) (by decide) (by decide)) (fun y => K 8 y (by decide) (by decide) (by decide) (by decide) (by decide)) s_o hid (fun q hq => ?_)
    · unfold pz_ch
      rw [K 0 x (by decide) (by decide) (by decide) (by decide) (by decide), K 1 x (by decide) (by decide) (by decide) (by decide) (by decide)]
    · rw [s_n] at hq
      rcases List.mem_append.mp hq with h | h
      · have h3 : q ∈ sv n := by rw [hl]; exact List.mem_append_left _ h
        have h4 : q.1 ≠ n := fun z => by
          have h5 := (hI n hn).1.2.2.2.1
          rw [hl, pz_id_app] at h5
          exact (List.nodup_append.mp h5).2.2 q.1 (pz_id_mem h) n List.mem_cons_self z
        rw [pz_fu_i h4]
        exact (hT n hn tn).2.1 q h3
      · rw [List.mem_singleton.mp h]
        exact pz_fu_s.symm
/-- paint: all on the way get the value v -/
def pz_mp (g : pz_S) (l : List Nat) (v : Int32) : pz_S := fun k y => if k = 0 ∧ y ∈ l then v else g k y
theorem pz_paint_ok {f : pz_S} {sv : pz_V} {g : pz_S} {n : Nat} {v : Int32} (hX : pz_X f sv g n) (hF : pz_Fo g) (hn : n < 24) : pz_J (pz_pp f n v) (pz_mp g (pz_w g n) v) := by
  have hX0 := hX
  have hXm : ∀ y, y ∈ pz_w g n ↔ y ∈ pz_id (sv n) := fun y => pz_X_m hX hn
  obtain ⟨hI, hT, tn, h2, h1, h9, h10⟩ := hX
  obtain ⟨sv', hs'⟩ : ∃ sv' : pz_V, sv' = fun y => if y = n then pz_pa v (sv n) else sv y := ⟨_, rfl⟩
  have s_n : sv' n = pz_pa v (sv n) := by rw [hs']; exact if_pos rfl
  have s_o : ∀ x, x ≠ n → sv' x = sv x := fun x h => by rw [hs']; exact if_neg h
  have hid : pz_id (sv' n) = pz_id (sv n) := by rw [s_n, pz_id_pa]
  have Fk : ∀ k y, k ≠ 3 → k ≠ 5 → k ≠ 6 → k ≠ 7 → k ≠ 10 → k ≠ 11 → pz_pp f n v k y = f k y := fun k y a b c d e r => pz_pp_k a b c d e r
  have Fi : ∀ k y, y ≠ n → pz_pp f n v k y = f k y := fun k y h => pz_pp_i h
  have own : ∀ c, c < 24 → pz_ch f n c → c ≠ n := fun c hc h => pz_chne hI hn hc h
  obtain ⟨v3, v10, v11⟩ := pz_pp_v (f := f) (i := n) (v := v)
  have A0 : ∀ y, pz_pp f n v 0 y = f 0 y := fun y => Fk 0 y (by decide) (by decide) (by decide) (by decide) (by decide) (by decide)
  have A1 : ∀ y, pz_pp f n v 1 y = f 1 y := fun y => Fk 1 y (by decide) (by decide) (by decide) (by decide) (by decide) (by decide)
  have A2 : ∀ y, pz_pp f n v 2 y = f 2 y := fun y => Fk 2 y (by decide) (by decide) (by decide) (by decide) (by decide) (by decide)
  have A8 : ∀ y, pz_pp f n v 8 y = f 8 y := fun y => Fk 8 y (by decide) (by decide) (by decide) (by decide) (by decide) (by decide)
  have A9 : ∀ y, pz_pp f n v 9 y = f 9 y := fun y => Fk 9 y (by decide) (by decide) (by decide) (by decide) (by decide) (by decide)
  have g1 : ∀ y, pz_mp g (pz_w g n) v 1 y = g 1 y := fun y => if_neg (fun z => by cases z.1)
  refine ⟨sv', ?_, ?_, pz_Fo_congr g1 hF⟩
  · intro y hy
    by_cases y1 : y = n
    · subst y1
      obtain ⟨⟨⟨P0, P1, P2⟩, hL1, hL3, hL4⟩, hL2⟩ := hI y hy
      refine ⟨⟨⟨by rw [A0]; exact P0, by rw [A1]; exact P1, by rw [A2]; exact P2⟩, ?_, ?_, ?_⟩, ?_⟩
      · unfold pz_L1
        rw [s_n, A9, v10, v11, v3, A0, A1, pz_sc_congr P0 (fun j hj z => s_o j (own j hj (Or.inl z))), pz_sc_congr P1 (fun j hj z => s_o j (own j hj (Or.inr z)))]
        unfold pz_L1 at hL1
        rw [hL1, pz_pa_rv, pz_pa_app]
        have pc : ∀ l, pz_pt 1 v l = pz_pa v l := fun l => if_neg (by decide)
        rw [pc, pc]
        have e9 : pz_pa v ((y, f 3 y) :: pz_pt (f 10 y) (f 11 y) (pz_sc sv (f 1 y))) = (y, v) :: pz_pa v (pz_pt (f 10 y) (f 11 y) (pz_sc sv (f 1 y))) := rfl
        rw [e9, pz_pa_pt, pz_pa_pt]
      · intro c hc h
        rw [A2]
        refine hL3 c hc ?_
        unfold pz_ch at h ⊢
        rw [A0, A1] at h
        exact h
      · unfold pz_L4
        rw [hid]
        exact hL4
      · show pz_PL _ y (sv' y)
        rw [s_n]
        exact pz_pp_PL hL2 (fun z => by
          have := pz_ne hI hy
          rw [z, List.length_nil] at this
          omega)
    · refine ⟨pz_Str_congr (hI y hy).1 (Fi 0 y y1) (Fi 1 y y1) (by rw [A2]; exact (hI y hy).1.1.2.2) (Fi 3 y y1) (Fi 9 y y1) (Fi 10 y y1) (Fi 11 y y1) (fun c hc h => ⟨A2 c, s_o c (fun z => pz_chtp hI hy hc h (by rw [z]; exact tn))⟩) (s_o y y1), ?_⟩
      exact pz_L2_congr (hI y hy).2 (Fi 4 y y1) (Fi 5 y y1) (Fi 6 y y1) (Fi 7 y y1) (s_o y y1) (fun z _ => A8 z)
  · refine pz_T_re hX0 hF hn g1 (fun y hy => if_neg (fun z => hy z.2)) (fun x _ => pz_tp_congr A2 (fun x c => ?_) x) A2 A8 s_o hid (fun q hq => ?_)
    · unfold pz_ch
      rw [A0, A1]
    · rw [s_n] at hq
      have hq1 : q.2 = v := by
        obtain ⟨r, -, e⟩ := List.mem_map.mp hq
        rw [← e]
      have hq2 : q.1 ∈ pz_w g n := (hXm q.1).mpr (by rw [← hid, s_n]; exact pz_id_mem hq)
      rw [hq1]
      exact (if_pos ⟨rfl, hq2⟩).symm
end
section
/-! PLAIN 10: link, cut -/
theorem pz_W_put {g g' : pz_S} : ∀ {U : List Nat} {c : Nat} {R R' : List Nat} {x : Int32}, pz_W g (U ++ c :: R) x → (∀ y ∈ U, g' 1 y = g 1 y) → pz_W g' R' (g' 1 c) → pz_W g' (U ++ c :: R') x := by
  intro U
  induction U with
  | nil => intro c R R' x h _ h'; exact ⟨h.1, h.2.1, h'⟩
  | cons u U ih =>
    intro c R R' x h he h'
    refine ⟨h.1, h.2.1, ?_⟩
    rw [he u List.mem_cons_self]
    exact ih h.2.2 (fun y hy => he y (List.mem_cons_of_mem _ hy)) h'
theorem pz_Cn_pre {g : pz_S} : ∀ {A B : List Nat} {a : Int32}, pz_Cn g a (A ++ B) → pz_Cn g a A := by
  intro A
  induction A with
  | nil => intro B a _; trivial
  | cons z A ih => intro B a h; exact ⟨h.1, ih h.2⟩
theorem pz_Hk_off {g g' : pz_S} {h h' : Nat → Int32} : ∀ {L : List (Nat × Int32)}, (∀ y ∈ pz_id L, pz_D g' y = pz_D g y ∧ h' y = h y) → pz_Hk g h L → pz_Hk g' h' L := by
  intro L
  induction L with
  | nil => intro _ _; trivial
  | cons q L ih =>
    intro he hk
    refine ⟨?_, ih (fun y hy => he y (List.mem_cons_of_mem _ hy)) hk.2⟩
    obtain ⟨e1, e2⟩ := he q.1 (by rw [pz_id_cons]; exact List.mem_cons_self)
    have e3 : pz_hD g' L = pz_hD g L := by
      cases L with
      | nil => rfl
      | cons r L => exact (he r.1 (by rw [pz_id_cons, pz_id_cons]; exact List.mem_cons_of_mem _ List.mem_cons_self)).1
    rw [e1, e2, e3]
    exact hk.1
theorem pz_Hk_link {g g' : pz_S} {h h' : Nat → Int32} {d : Int32} : ∀ {A : List (Nat × Int32)} {q : Nat × Int32}, pz_Hk g h (A ++ [q]) → (∀ y ∈ pz_id A, pz_D g' y = pz_D g y + d ∧ h' y = h y) → pz_D g' q.1 = pz_D g q.1 + d → h' q.1 = h q.1 + d → pz_Hk g' h' (A ++ [q]) := by
  intro A
  induction A with
  | nil =>
    intro q hk _ e1 e2
    refine ⟨?_, trivial⟩
    have := hk.1
    simp only [pz_hD] at this ⊢
    rw [e1, e2]
    grind
  | cons a A ih =>
    intro q hk he e1 e2
    refine ⟨?_, ih hk.2 (fun y hy => he y (List.mem_cons_of_mem _ hy)) e1 e2⟩
    obtain ⟨d1, d2⟩ := he a.1 (by rw [pz_id_cons]; exact List.mem_cons_self)
    have e3 : pz_hD g' (A ++ [q]) = pz_hD g (A ++ [q]) + d := by
      cases A with
      | nil => exact e1
      | cons r A => exact (he r.1 (by rw [pz_id_cons, pz_id_cons]; exact List.mem_cons_of_mem _ List.mem_cons_self)).1
    have := hk.1
    have this : a.2 + h a.1 + pz_hD g (A ++ [q]) = pz_D g a.1 := this
    show a.2 + h' a.1 + pz_hD g' (A ++ [q]) = pz_D g' a.1
    rw [d1, d2, e3]
    grind
theorem pz_Hk_cut {g g' : pz_S} {h : Nat → Int32} : ∀ {A : List (Nat × Int32)} {q : Nat × Int32}, pz_Hk g h (A ++ [q]) → (∀ y ∈ pz_id A, pz_D g y = pz_D g' y + pz_D g q.1) → pz_Hk g' h A := by
  intro A
  induction A with
  | nil => intro q _ _; trivial
  | cons a A ih =>
    intro q hk he
    refine ⟨?_, ih hk.2 (fun y hy => he y (List.mem_cons_of_mem _ hy))⟩
    have d1 := he a.1 (by rw [pz_id_cons]; exact List.mem_cons_self)
    have this : a.2 + h a.1 + pz_hD g (A ++ [q]) = pz_D g a.1 := hk.1
    cases A with
    | nil =>
      have this : a.2 + h a.1 + pz_D g q.1 = pz_D g a.1 := this
      show a.2 + h a.1 + 0 = pz_D g' a.1
      grind
    | cons r A =>
      have d2 := he r.1 (by rw [pz_id_cons, pz_id_cons]; exact List.mem_cons_of_mem _ List.mem_cons_self)
      have this : a.2 + h a.1 + pz_D g r.1 = pz_D g a.1 := this
      show a.2 + h a.1 + pz_D g' r.1 = pz_D g' a.1
      grind
/-- a root c gets the parent p -/
theorem pz_lk {g : pz_S} {c p : Nat} (hF : pz_Fo g) (hc : c < 24) (hp : p < 24) (e : g 1 c = -1) (hn : c ∉ pz_w g p) :
    pz_Fo (pz_fu g 1 c (nI p)) ∧ ∀ y, pz_D (pz_fu g 1 c (nI p)) y = pz_D g y + if y ∈ pz_w g p then pz_D g c else 0 := by
  have e1 : ∀ y, y ≠ c → pz_fu g 1 c (nI p) 1 y = g 1 y := fun y h => pz_fu_i h
  have e2 : pz_fu g 1 c (nI p) 1 c = nI p := pz_fu_s
  have wp : pz_W (pz_fu g 1 c (nI p)) (pz_w g p) (nI p) := pz_W_congr (fun y hy => e1 y (fun z => hn (by rw [← z]; exact hy))) (hF p hp)
  have w1 : ∀ k, k < 24 → c ∉ pz_w g k → pz_W (pz_fu g 1 c (nI p)) (pz_w g k) (nI k) := fun k hk h => pz_W_congr (fun y hy => e1 y (fun z => h (by rw [← z]; exact hy))) (hF k hk)
  have w2 : ∀ k, k < 24 → c ∈ pz_w g k → pz_W (pz_fu g 1 c (nI p)) (pz_w g k ++ pz_w g p) (nI k) := fun k hk h => by
    obtain ⟨U, eU⟩ := pz_w_suf hF hk h
    rw [pz_w_root hc e] at eU
    have hw := hF k hk
    have hnd := pz_W_nd hw
    rw [eU] at hw hnd
    have hcU : c ∉ U := fun z => (List.nodup_append.mp hnd).2.2 c z c List.mem_cons_self rfl
    rw [eU, List.append_assoc]
    exact pz_W_put hw (fun y hy => e1 y (fun z => hcU (by rw [← z]; exact hy))) (by rw [e2]; exact wp)
  refine ⟨pz_Fo_of (fun k hk => ?_), fun y => ?_⟩
  · by_cases h : c ∈ pz_w g k
    · exact ⟨_, w2 k hk h⟩
    · exact ⟨_, w1 k hk h⟩
  · have f0 : ∀ k, pz_fu g 1 c (nI p) 0 k = g 0 k := fun k => pz_fu_k (by decide)
    by_cases hy : y ∈ pz_w g p
    · rw [if_pos hy]
      unfold pz_D
      rw [← pz_su_add]
      refine pz_su_congr (fun k hk => ?_)
      rw [f0]
      by_cases h : c ∈ pz_w g k
      · have hyk : y ∉ pz_w g k := fun z => by
          have h3 := pz_ro_on hF hk z
          have h4 := pz_ro_on hF hk h
          rw [pz_ro_root hc e] at h4
          have h5 := pz_ro_on hF hp hy
          have h6 : pz_ro g p = c := by rw [← h5, h3, h4]
          refine hn ?_
          rw [← h6]
          unfold pz_ro
          cases hl : (pz_w g p).getLast? with
          | none =>
            have := List.getLast?_eq_none_iff.mp hl
            rw [this] at hy
            cases hy
          | some z => exact List.mem_of_getLast? hl
        rw [pz_W_w (w2 k hk h), if_pos (List.mem_append_right _ hy), if_neg hyk, if_pos h]
        simp
      · rw [pz_W_w (w1 k hk h), if_neg h]
        simp
    · rw [if_neg hy]
      unfold pz_D
      have : pz_su (fun k => if y ∈ pz_w (pz_fu g 1 c (nI p)) k then pz_fu g 1 c (nI p) 0 k else 0) 24 = pz_su (fun k => if y ∈ pz_w g k then g 0 k else 0) 24 := by
        refine pz_su_congr (fun k hk => ?_)
        rw [f0]
        by_cases h : c ∈ pz_w g k
        · rw [pz_W_w (w2 k hk h)]
          by_cases hyk : y ∈ pz_w g k
          · rw [if_pos (List.mem_append_left _ hyk), if_pos hyk]
          · rw [if_neg (fun z => by
              rcases List.mem_append.mp z with z | z
              · exact hyk z
              · exact hy z), if_neg hyk]
        · rw [pz_W_w (w1 k hk h)]
      rw [this]
      simp
/-- link -/
theorem pz_link_ok {f : pz_S} {sv : pz_V} {g : pz_S} {p c : Nat} (hX : pz_X f sv g p) (hF : pz_Fo g) (hp : p < 24) (hc : c < 24) (tc : pz_tp f c) (h2c : f 2 c = -1) (hsc : ∃ v, sv c = [(c, v)]) (hn : c ∉ pz_w g p) :
    pz_J (pz_gth (pz_fu (pz_fu f 2 c (nI p)) 8 p (f 8 p + f 7 c)) p) (pz_fu g 1 c (nI p)) := by
  have hXl := pz_X_l hX hp
  have hXm : ∀ y, y ∈ pz_w g p ↔ y ∈ pz_id (sv p) := fun y => pz_X_m hX hp
  obtain ⟨hI, hT, tp, h2, h1, h9, h10⟩ := hX
  obtain ⟨vc, hsc⟩ := hsc
  have hcp : c ≠ p := fun z => hn (by rw [z]; exact pz_w_self hF hp)
  have gc : g 1 c = -1 := by
    have := (hT c hc tc).1
    rw [hsc, h2c] at this
    exact this.1
  obtain ⟨hF', hD'⟩ := pz_lk hF hc hp gc hn
  obtain ⟨F, hF0⟩ : ∃ F, F = pz_fu (pz_fu f 2 c (nI p)) 8 p (f 8 p + f 7 c) := ⟨_, rfl⟩
  have Fk : ∀ k y, k ≠ 2 → k ≠ 8 → F k y = f k y := fun k y k2 k8 => by rw [hF0, pz_fu_k k8, pz_fu_k k2]
  have F2c : F 2 c = nI p := by rw [hF0, pz_fu_k (by decide), pz_fu_s]
  have F2 : ∀ y, y ≠ c → F 2 y = f 2 y := fun y h => by rw [hF0, pz_fu_k (by decide), pz_fu_i h]
  have F8p : F 8 p = f 8 p + f 7 c := by rw [hF0, pz_fu_s]
  have F8 : ∀ y, y ≠ p → F 8 y = f 8 y := fun y h => by rw [hF0, pz_fu_i h, pz_fu_k (by decide)]
  rw [← hF0]
  have out : ∀ x, x < 24 → x ≠ p → p ∉ pz_id (sv x) := fun x hx h hm => h (pz_top_mem hI hx tp hm).symm
  have noc : ∀ x, x < 24 → ¬ pz_ch f x c := fun x hx h => by
    have := (hI x hx).1.2.2.1 c hc h
    rw [h2c] at this
    exact pz_nm hx this.symm
  have S : ∀ y, y < 24 → pz_Str F sv y := fun y hy =>
    pz_Str_congr (hI y hy).1 (Fk 0 y (by decide) (by decide)) (Fk 1 y (by decide) (by decide)) (by
      by_cases hyc : y = c
      · rw [hyc, F2c]; exact pz_P_n hp
      · rw [F2 y hyc]; exact (hI y hy).1.1.2.2) (Fk 3 y (by decide) (by decide)) (Fk 9 y (by decide) (by decide)) (Fk 10 y (by decide) (by decide)) (Fk 11 y (by decide) (by decide)) (fun d hd h => ⟨F2 d (fun z => noc y hy (by rw [← z]; exact h)), rfl⟩) rfl
  have T2 : ∀ y, y < 24 → y ≠ p → pz_L2 F sv y := fun y hy y1 => pz_L2_congr (hI y hy).2 (Fk 4 y (by decide) (by decide)) (Fk 5 y (by decide) (by decide)) (Fk 6 y (by decide) (by decide)) (Fk 7 y (by decide) (by decide)) rfl (fun z hz => F8 z (fun e => out y hy y1 (by rw [← e]; exact hz)))
  have K : ∀ k y, k ≠ 4 → k ≠ 5 → k ≠ 6 → k ≠ 7 → pz_gth F p k y = F k y := fun k y h4 h5 h6 h7 => pz_gth_k h4 h5 h6 h7
  have Kch : ∀ x d, pz_ch (pz_gth F p) x d ↔ pz_ch f x d := fun x d => by
    unfold pz_ch
    rw [K 0 x (by decide) (by decide) (by decide) (by decide), K 1 x (by decide) (by decide) (by decide) (by decide), Fk 0 x (by decide) (by decide), Fk 1 x (by decide) (by decide)]
  have K2 : ∀ y, y ≠ c → pz_gth F p 2 y = f 2 y := fun y h => by rw [K 2 y (by decide) (by decide) (by decide) (by decide), F2 y h]
  have K8 : ∀ y, y ≠ p → pz_gth F p 8 y = f 8 y := fun y h => by rw [K 8 y (by decide) (by decide) (by decide) (by decide), F8 y h]
  have ktp : ∀ x, x < 24 → pz_tp (pz_gth F p) x → pz_tp f x := fun x hx t => by
    by_cases hxc : x = c
    · rw [hxc]; exact tc
    · intro q hq e hh
      exact t q hq (by rw [K2 x hxc]; exact e) ((Kch q x).mpr hh)
  have f7c : f 7 c = pz_D g c := by
    rw [pz_whole hI hT hc tc, hsc]
    rfl
  refine ⟨sv, ?_, ?_, hF'⟩
  · intro y hy
    refine ⟨pz_gth_Str (S y hy), ?_⟩
    by_cases y1 : y = p
    · subst y1
      refine pz_gth_L2 (S y hy) (by rw [Fk 9 y (by decide) (by decide)]; exact h9) (by rw [Fk 10 y (by decide) (by decide)]; exact h10) (fun d hd h => ?_)
      have h : pz_ch f y d := by
        unfold pz_ch at h ⊢
        rw [Fk 0 y (by decide) (by decide), Fk 1 y (by decide) (by decide)] at h
        exact h
      have := pz_chne hI hy hd h
      exact ⟨this, T2 d hd this⟩
    · exact pz_gth_L2' y1 (T2 y hy y1)
  · intro x hx tx
    have tx := ktp x hx tx
    obtain ⟨a, b, d⟩ := hT x hx tx
    have bv : ∀ q ∈ sv x, q.2 = pz_fu g 1 c (nI p) 0 q.1 := fun q hq => by
      rw [pz_fu_k (by decide)]
      exact b q hq
    by_cases xc : x = c
    · subst xc
      rw [K 2 x (by decide) (by decide) (by decide) (by decide), F2c]
      refine ⟨by rw [hsc]; exact ⟨pz_fu_s, trivial⟩, bv, pz_Hk_off (fun y hy => ?_) d⟩
      rw [hsc] at hy
      have hyx : y = x := List.mem_singleton.mp hy
      rw [hyx, hD' x, if_neg hn]
      exact ⟨by simp, K8 x hcp⟩
    · have ncx : c ∉ pz_id (sv x) := fun h => xc (pz_top_mem hI hx tc h).symm
      rw [K2 x xc]
      refine ⟨pz_Cn_congr (fun y hy => pz_fu_i (fun z => ncx (by rw [← z]; exact hy))) a, bv, ?_⟩
      by_cases xp : x = p
      · subst xp
        rw [hXl] at d ⊢
        have nd := (hI x hx).1.2.2.2.1
        rw [hXl, pz_id_app] at nd
        refine pz_Hk_link (d := pz_D g c) d (fun y hy => ⟨?_, K8 y ?_⟩) ?_ ?_
        · rw [hD' y, if_pos ((hXm y).mpr (by rw [hXl, pz_id_app]; exact List.mem_append_left _ hy))]
        · intro z
          exact (List.nodup_append.mp nd).2.2 y hy x List.mem_cons_self z
        · rw [hD', if_pos (pz_w_self hF hp)]
        · show pz_gth F x 8 x = f 8 x + pz_D g c
          rw [K 8 x (by decide) (by decide) (by decide) (by decide), F8p, f7c]
      · refine pz_Hk_off (fun y hy => ⟨?_, K8 y (fun z => out x hx xp (by rw [← z]; exact hy))⟩) d
        rw [hD' y, if_neg (fun h => xp (pz_apart hI hx hp tx tp hy ((hXm y).mp h)))]
        simp
/-- cut -/
theorem pz_cut_ok {f : pz_S} {sv : pz_V} {g : pz_S} {n l : Nat} (hX : pz_X f sv g n) (hF : pz_Fo g) (hn : n < 24) (hl : l < 24) (e0 : f 0 n = nI l) :
    pz_J (pz_gth (pz_fu (pz_fu f 2 l (-1)) 0 n (-1)) n) (pz_fu g 1 n (-1)) := by
  have hXl := pz_X_l hX hn
  have hXm : ∀ y, y ∈ pz_w g n ↔ y ∈ pz_id (sv n) := fun y => pz_X_m hX hn
  obtain ⟨p, hp, gp, -⟩ := pz_X_p1 hX hn hl e0
  have hpart := pz_X_part hX hn
  obtain ⟨hI, hT, tn, h2, h1, h9, h10⟩ := hX
  rw [e0, pz_sc_n hl] at hXl
  -- the model's side
  have ew := pz_w_par hF hn hp gp
  have nnp : n ∉ pz_w g p := by
    have := pz_W_nd (hF n hn)
    rw [ew] at this
    exact (List.nodup_cons.mp this).1
  obtain ⟨g', hg'⟩ : ∃ g', g' = pz_fu g 1 n (-1) := ⟨_, rfl⟩
  have g1n : g' 1 n = -1 := by rw [hg', pz_fu_s]
  have g1 : ∀ y, y ≠ n → g' 1 y = g 1 y := fun y h => by rw [hg', pz_fu_i h]
  have g0 : ∀ y, g' 0 y = g 0 y := fun y => by rw [hg', pz_fu_k (by decide)]
  have hF' : pz_Fo g' := by
    refine pz_Fo_of (fun k hk => ?_)
    by_cases h : n ∈ pz_w g k
    · obtain ⟨U, eU⟩ := pz_w_suf hF hk h
      rw [ew] at eU
      have hw := hF k hk
      have hnd := pz_W_nd hw
      rw [eU] at hw hnd
      have hcU : n ∉ U := fun z => (List.nodup_append.mp hnd).2.2 n z n List.mem_cons_self rfl
      exact ⟨U ++ n :: [], pz_W_put hw (fun y hy => g1 y (fun z => hcU (by rw [← z]; exact hy))) g1n⟩
    · exact ⟨_, pz_W_congr (fun y hy => g1 y (fun z => h (by rw [← z]; exact hy))) (hF k hk)⟩
  have wp : pz_w g' p = pz_w g p := pz_W_w (pz_W_congr (fun y hy => g1 y (fun z => nnp (by rw [← z]; exact hy))) (hF p hp))
  have back : pz_fu g' 1 n (nI p) = g := by
    funext k y
    by_cases hk : k = 1 ∧ y = n
    · obtain ⟨rfl, rfl⟩ := hk
      rw [pz_fu_s, gp]
    · rw [hg']
      simp [pz_fu, hk]
  obtain ⟨-, hD⟩ := pz_lk (g := g') hF' hn hp g1n (by rw [wp]; exact nnp)
  rw [back, wp] at hD
  rw [← hg']
  -- the pieces
  obtain ⟨F, hF0⟩ : ∃ F, F = pz_fu (pz_fu f 2 l (-1)) 0 n (-1) := ⟨_, rfl⟩
  have Fk : ∀ k y, k ≠ 0 → k ≠ 2 → F k y = f k y := fun k y k0 k2 => by rw [hF0, pz_fu_k k0, pz_fu_k k2]
  have F0n : F 0 n = -1 := by rw [hF0, pz_fu_s]
  have F0 : ∀ y, y ≠ n → F 0 y = f 0 y := fun y h => by rw [hF0, pz_fu_i h, pz_fu_k (by decide)]
  have F2l : F 2 l = -1 := by rw [hF0, pz_fu_k (by decide), pz_fu_s]
  have F2 : ∀ y, y ≠ l → F 2 y = f 2 y := fun y h => by rw [hF0, pz_fu_k (by decide), pz_fu_i h]
  rw [← hF0]
  have hln : l ≠ n := pz_chne hI hn hl (Or.inl e0)
  have hnl : n ≠ l := fun z => hln z.symm
  obtain ⟨sv', hs'⟩ : ∃ sv' : pz_V, sv' = fun y => if y = n then [(n, f 3 n)] else sv y := ⟨_, rfl⟩
  have s_n : sv' n = [(n, f 3 n)] := by rw [hs']; exact if_pos rfl
  have s_o : ∀ x, x ≠ n → sv' x = sv x := fun x h => by rw [hs']; exact if_neg h
  have S : ∀ y, y < 24 → pz_Str F sv' y := by
    intro y hy
    by_cases y1 : y = n
    · subst y1
      refine ⟨⟨by rw [F0n]; exact pz_P_m, by rw [Fk 1 y (by decide) (by decide)]; exact (hI y hy).1.1.2.1, by rw [F2 y hnl]; exact (hI y hy).1.1.2.2⟩, ?_, ?_, ?_⟩
      · unfold pz_L1
        rw [Fk 9 y (by decide) (by decide), Fk 10 y (by decide) (by decide), h9, h10, pz_rv_0, pz_pt_0, pz_pt_0, F0n, Fk 1 y (by decide) (by decide), h1, Fk 3 y (by decide) (by decide), pz_sc_m]
        exact s_n
      · intro c hc h
        rcases h with h | h
        · rw [F0n] at h
          exact absurd h.symm (pz_nm hc)
        · rw [Fk 1 y (by decide) (by decide), h1] at h
          exact absurd h.symm (pz_nm hc)
      · unfold pz_L4
        rw [s_n]
        refine ⟨by simp [pz_id], fun z hz => ?_⟩
        have : z = y := List.mem_singleton.mp hz
        rw [this]
        exact hy
    · refine pz_Str_congr (hI y hy).1 (F0 y y1) (Fk 1 y (by decide) (by decide)) ?_ (Fk 3 y (by decide) (by decide)) (Fk 9 y (by decide) (by decide)) (Fk 10 y (by decide) (by decide)) (Fk 11 y (by decide) (by decide)) (fun d hd h => ⟨F2 d (fun z => y1 (pz_par hI hy hn hd h (by rw [z]; exact Or.inl e0))), s_o d (fun z => pz_chtp hI hy hd h (by rw [z]; exact tn))⟩) (s_o y y1)
      by_cases hyl : y = l
      · rw [hyl, F2l]; exact pz_P_m
      · rw [F2 y hyl]; exact (hI y hy).1.1.2.2
  have T2 : ∀ y, y < 24 → y ≠ n → pz_L2 F sv' y := fun y hy y1 => pz_L2_congr (hI y hy).2 (Fk 4 y (by decide) (by decide)) (Fk 5 y (by decide) (by decide)) (Fk 6 y (by decide) (by decide)) (Fk 7 y (by decide) (by decide)) (s_o y y1) (fun z _ => Fk 8 z (by decide) (by decide))
  have K : ∀ k y, k ≠ 4 → k ≠ 5 → k ≠ 6 → k ≠ 7 → pz_gth F n k y = F k y := fun k y h4 h5 h6 h7 => pz_gth_k h4 h5 h6 h7
  have K8 : ∀ y, pz_gth F n 8 y = f 8 y := fun y => by rw [K 8 y (by decide) (by decide) (by decide) (by decide), Fk 8 y (by decide) (by decide)]
  have ktp : ∀ x, x < 24 → x ≠ l → pz_tp (pz_gth F n) x → pz_tp f x := fun x hx hxl t q hq e hh => by
    refine t q hq (by rw [K 2 x (by decide) (by decide) (by decide) (by decide), F2 x hxl]; exact e) ?_
    unfold pz_ch
    rw [K 0 q (by decide) (by decide) (by decide) (by decide), K 1 q (by decide) (by decide) (by decide) (by decide), Fk 1 q (by decide) (by decide)]
    rcases hh with hh | hh
    · by_cases hqn : q = n
      · rw [hqn, e0] at hh
        exact absurd (pz_inj hl hx hh).symm hxl
      · rw [F0 q hqn]
        exact Or.inl hh
    · exact Or.inr hh
  obtain ⟨a, b, d⟩ := hT n hn tn
  have nd := (hI n hn).1.2.2.2.1
  rw [hXl, pz_id_app] at nd
  have nnl : n ∉ pz_id (sv l) := fun z => (List.nodup_append.mp nd).2.2 n z n List.mem_cons_self rfl
  refine ⟨sv', ?_, ?_, hF'⟩
  · intro y hy
    refine ⟨pz_gth_Str (S y hy), ?_⟩
    by_cases y1 : y = n
    · subst y1
      refine pz_gth_L2 (S y hy) (by rw [Fk 9 y (by decide) (by decide)]; exact h9) (by rw [Fk 10 y (by decide) (by decide)]; exact h10) (fun c hc h => ?_)
      rcases h with h | h
      · rw [F0n] at h
        exact absurd h.symm (pz_nm hc)
      · rw [Fk 1 y (by decide) (by decide), h1] at h
        exact absurd h.symm (pz_nm hc)
    · exact pz_gth_L2' y1 (T2 y hy y1)
  · intro x hx tx
    by_cases xl : x = l
    · subst xl
      rw [K 2 x (by decide) (by decide) (by decide) (by decide), F2l, s_o x hln]
      refine ⟨?_, fun q hq => ?_, ?_⟩
      · rw [hXl, pz_id_app, h2] at a
        exact pz_Cn_congr (fun y hy => g1 y (fun z => nnl (by rw [← z]; exact hy))) (pz_Cn_pre a)
      · rw [g0]
        exact b q (by rw [hXl]; exact List.mem_append_left _ hq)
      · rw [hXl] at d
        have key : pz_Hk g' (f 8) (sv x) := by
          refine pz_Hk_cut d (fun y hy => ?_)
          show pz_D g y = pz_D g' y + pz_D g n
          have hyp : y ∈ pz_w g p := by
            have h3 : y ∈ pz_w g n := (hXm y).mpr (by rw [hXl, pz_id_app]; exact List.mem_append_left _ hy)
            rw [ew] at h3
            rcases List.mem_cons.mp h3 with h3 | h3
            · rw [h3] at hy
              exact absurd hy nnl
            · exact h3
          rw [hD y, if_pos hyp, hD n, if_neg nnp]
          grind
        exact pz_Hk_congr key (fun y _ => K8 y)
    · have tx := ktp x hx xl tx
      rw [K 2 x (by decide) (by decide) (by decide) (by decide), F2 x xl]
      by_cases xn : x = n
      · subst xn
        rw [s_n, h2]
        refine ⟨⟨g1n, trivial⟩, fun q hq => ?_, ?_, trivial⟩
        · rw [g0]
          rw [List.mem_singleton.mp hq]
          exact b (x, f 3 x) (by rw [hXl]; exact List.mem_append_right _ List.mem_cons_self)
        · show f 3 x + pz_gth F x 8 x + 0 = pz_D g' x
          rw [K8, hpart, hD x, if_neg nnp]
          grind
      · rw [s_o x xn]
        obtain ⟨a', b', d'⟩ := hT x hx tx
        have off : ∀ y, y ∈ pz_id (sv x) → y ∉ pz_w g n := fun y hy h => xn (pz_apart hI hx hn tx tn hy ((hXm y).mp h))
        refine ⟨pz_Cn_congr (fun y hy => g1 y (fun z => off y hy (by rw [z]; exact pz_w_self hF hn))) a', fun q hq => by rw [g0]; exact b' q hq, pz_Hk_off (fun y hy => ⟨?_, K8 y⟩) d'⟩
        rw [hD y, if_neg (fun z => off y hy (by rw [ew]; exact List.mem_cons_of_mem _ z))]
        simp
end
section
/-! PLAIN 11: turn; the start -/
def pz_tu : List Nat → pz_S → Int32 → pz_S
  | [], g, _ => g
  | n :: l, g, b => pz_tu l (pz_fu g 1 n b) (nI n)
theorem pz_tu_0 : ∀ (l : List Nat) (g : pz_S) (b : Int32) (k y : Nat), k ≠ 1 → pz_tu l g b k y = g k y := by
  intro l
  induction l with
  | nil => intro g b k y _; rfl
  | cons n l ih =>
    intro g b k y hk
    show pz_tu l (pz_fu g 1 n b) (nI n) k y = g k y
    rw [ih _ _ _ _ hk, pz_fu_k hk]
theorem pz_tu_off : ∀ (l : List Nat) (g : pz_S) (b : Int32) (k y : Nat), y ∉ l → pz_tu l g b k y = g k y := by
  intro l
  induction l with
  | nil => intro g b k y _; rfl
  | cons n l ih =>
    intro g b k y hy
    show pz_tu l (pz_fu g 1 n b) (nI n) k y = g k y
    rw [ih _ _ _ _ (fun z => hy (List.mem_cons_of_mem _ z)), pz_fu_i (fun z => hy (by rw [z]; exact List.mem_cons_self))]
theorem pz_tu_Cn : ∀ (l : List Nat) (g : pz_S) (b : Int32), l.Nodup → pz_Cn (pz_tu l g b) b l := by
  intro l
  induction l with
  | nil => intro g b _; trivial
  | cons n l ih =>
    intro g b h
    obtain ⟨h1, h2⟩ := List.nodup_cons.mp h
    refine ⟨?_, ih _ _ h2⟩
    show pz_tu l (pz_fu g 1 n b) (nI n) 1 n = b
    rw [pz_tu_off l _ _ _ _ h1, pz_fu_s]
theorem pz_split (m : List Nat) : ∀ (l : List Nat), (∀ y ∈ l, y ∉ m) ∨ ∃ U p R, l = U ++ p :: R ∧ p ∈ m ∧ ∀ y ∈ U, y ∉ m := by
  intro l
  induction l with
  | nil => exact Or.inl (fun y hy => by cases hy)
  | cons a l ih =>
    by_cases ha : a ∈ m
    · exact Or.inr ⟨[], a, l, rfl, ha, fun y hy => by cases hy⟩
    · rcases ih with h | ⟨U, p, R, e, hp, hU⟩
      · refine Or.inl (fun y hy => ?_)
        rcases List.mem_cons.mp hy with z | z
        · rw [z]; exact ha
        · exact h y z
      · refine Or.inr ⟨a :: U, p, R, by rw [e]; rfl, hp, fun y hy => ?_⟩
        rcases List.mem_cons.mp hy with z | z
        · rw [z]; exact ha
        · exact hU y z
theorem pz_ro_mem {g : pz_S} (hF : pz_Fo g) {n : Nat} (hn : n < 24) : pz_ro g n ∈ pz_w g n := by
  unfold pz_ro
  cases hl : (pz_w g n).getLast? with
  | none =>
    have := List.getLast?_eq_none_iff.mp hl
    have h2 := pz_w_self hF hn
    rw [this] at h2
    cases h2
  | some z => exact List.mem_of_getLast? hl
/-- the ways behind a turn: either a way doesn't meet n's way, and stays; or it goes on downwards from where it meets it -/
theorem pz_tu_w {g : pz_S} (hF : pz_Fo g) {n k : Nat} (hn : n < 24) (hk : k < 24) :
    ((∀ y ∈ pz_w g k, y ∉ pz_w g n) ∧ pz_W (pz_tu (pz_w g n) g (-1)) (pz_w g k) (nI k)) ∨
    ∃ U p R V, pz_w g k = U ++ p :: R ∧ pz_w g p = p :: R ∧ p ∈ pz_w g n ∧ (∀ y ∈ U, y ∉ pz_w g n) ∧ pz_w g n = V ++ p :: R ∧ pz_W (pz_tu (pz_w g n) g (-1)) (U ++ p :: V.reverse) (nI k) := by
  rcases pz_split (pz_w g n) (pz_w g k) with h | ⟨U, p, R, e, hp, hU⟩
  · exact Or.inl ⟨h, pz_W_congr (fun y hy => pz_tu_off _ _ _ _ _ (h y hy)) (hF k hk)⟩
  · right
    have hwk := hF k hk
    rw [e] at hwk
    have ep : pz_w g p = p :: R := pz_W_w (pz_W_sub hwk)
    obtain ⟨V, eV⟩ := pz_w_suf hF hn hp
    rw [ep] at eV
    have hC := pz_tu_Cn (pz_w g n) g (-1) (pz_W_nd (hF n hn))
    have hWp := pz_Cn_W (g := pz_tu (pz_w g n) g (-1)) (A := V) (y := p) (B := R) (a := -1) (la := []) (by rw [← eV]; exact hC) (by rw [← eV]; exact pz_W_lt (hF n hn)) rfl
    rw [List.append_nil] at hWp
    exact ⟨U, p, R, V, e, ep, hp, hU, eV, pz_W_put hwk (fun y hy => pz_tu_off _ _ _ _ _ (hU y hy)) hWp.2.2⟩
theorem pz_tu_Fo {g : pz_S} (hF : pz_Fo g) {n : Nat} (hn : n < 24) : pz_Fo (pz_tu (pz_w g n) g (-1)) := by
  refine pz_Fo_of (fun k hk => ?_)
  rcases pz_tu_w hF hn hk with ⟨-, h⟩ | ⟨U, p, R, V, -, -, -, -, -, h⟩
  · exact ⟨_, h⟩
  · exact ⟨_, h⟩
theorem pz_tu_D {g : pz_S} (hF : pz_Fo g) {n y : Nat} (hn : n < 24) (hy : y ∉ pz_w g n) : pz_D (pz_tu (pz_w g n) g (-1)) y = pz_D g y := by
  unfold pz_D
  refine pz_su_congr (fun k hk => ?_)
  rw [pz_tu_0 _ _ _ _ _ (by decide)]
  rcases pz_tu_w hF hn hk with ⟨-, h⟩ | ⟨U, p, R, V, e1, e2, hp, hU, e3, h⟩
  · rw [pz_W_w h]
  · rw [pz_W_w h, e1]
    have k1 : y ∉ p :: V.reverse := fun z => by
      rcases List.mem_cons.mp z with z | z
      · exact hy (by rw [z]; exact hp)
      · exact hy (by rw [e3]; exact List.mem_append_left _ (List.mem_reverse.mp z))
    have k2 : y ∉ p :: R := fun z => hy (by rw [e3]; exact List.mem_append_right _ z)
    by_cases hyU : y ∈ U
    · rw [if_pos (List.mem_append_left _ hyU), if_pos (List.mem_append_left _ hyU)]
    · rw [if_neg (fun z => by
        rcases List.mem_append.mp z with z | z
        · exact hyU z
        · exact k1 z), if_neg (fun z => by
        rcases List.mem_append.mp z with z | z
        · exact hyU z
        · exact k2 z)]
/-- on the way: the sum under q behind the turn and the sum under the next deeper node r before it make the whole tree -/
theorem pz_tu_Dn {g : pz_S} (hF : pz_Fo g) {n q r : Nat} (hn : n < 24) (hq : q ∈ pz_w g n) (hr : r ∈ pz_w g n) (e : g 1 r = nI q) : pz_D (pz_tu (pz_w g n) g (-1)) q + pz_D g r = pz_D g (pz_ro g n) := by
  have q24 := pz_w_lt hF hn hq
  have r24 := pz_w_lt hF hn hr
  have ew := pz_w_par hF r24 q24 e
  have hqr : q ∈ pz_w g r := by rw [ew]; exact List.mem_cons_of_mem _ (pz_w_self hF q24)
  have nrq : r ∉ pz_w g q := fun h => by
    have h2 := pz_W_nd (hF r r24)
    rw [ew] at h2
    exact (List.nodup_cons.mp h2).1 h
  have hnd := pz_W_nd (hF n hn)
  unfold pz_D
  rw [← pz_su_add]
  refine pz_su_congr (fun k hk => ?_)
  rw [pz_tu_0 _ _ _ _ _ (by decide)]
  rcases pz_tu_w hF hn hk with ⟨h0, h⟩ | ⟨U, p, R, V, e1, e2, hp, hU, e3, h⟩
  · rw [pz_W_w h, if_neg (fun z => h0 q z hq), if_neg (fun z => h0 r z hr), if_neg (fun z => h0 _ z (pz_ro_mem hF hn))]
    simp
  · have p24 := pz_w_lt hF hn hp
    have hro : pz_ro g n ∈ pz_w g k := by
      rw [e1, ← e2]
      refine List.mem_append_right _ ?_
      rw [← pz_ro_on hF hn hp]
      exact pz_ro_mem hF p24
    rw [pz_W_w h, if_pos hro]
    have nd2 := hnd
    rw [e3] at nd2
    have dj := (List.nodup_append.mp nd2).2.2
    by_cases hrp : r ∈ pz_w g p
    · have h1 : r ∈ pz_w g k := by rw [e1, ← e2]; exact List.mem_append_right _ hrp
      have h2 : q ∈ p :: R := by rw [← e2]; exact pz_w_tr hF p24 hrp hqr
      have h3 : q ∉ U ++ p :: V.reverse := fun z => by
        rcases List.mem_append.mp z with z | z
        · exact hU q z hq
        · rcases List.mem_cons.mp z with z | z
          · rw [← z] at hrp
            exact nrq hrp
          · exact dj q (List.mem_reverse.mp z) q h2 rfl
      rw [if_neg h3, if_pos h1]
      simp
    · have h1 : r ∉ pz_w g k := fun z => by
        rw [e1, ← e2] at z
        rcases List.mem_append.mp z with z | z
        · exact hU r z hr
        · exact hrp z
      have h3 : q ∈ U ++ p :: V.reverse := by
        refine List.mem_append_right _ ?_
        have hq2 := hq
        rw [e3] at hq2
        rcases List.mem_append.mp hq2 with z | z
        · exact List.mem_cons_of_mem _ (List.mem_reverse.mpr z)
        · by_cases hqp : q = p
          · rw [hqp]; exact List.mem_cons_self
          · exfalso
            have hqp2 : q ∈ pz_w g p := by rw [e2]; exact z
            rcases pz_w_cmp hF hn hp hr with w | w
            · rw [ew] at w
              rcases List.mem_cons.mp w with w | w
              · exact hrp (by rw [← w]; exact pz_w_self hF p24)
              · exact hqp (pz_w_anti hF q24 p24 hqp2 w)
            · exact hrp w
      rw [if_pos h3, if_neg h1]
      simp
theorem pz_tu_Dl {g : pz_S} (hF : pz_Fo g) {n : Nat} (hn : n < 24) : pz_D (pz_tu (pz_w g n) g (-1)) n = pz_D g (pz_ro g n) := by
  have hnd := pz_W_nd (hF n hn)
  unfold pz_D
  refine pz_su_congr (fun k hk => ?_)
  rw [pz_tu_0 _ _ _ _ _ (by decide)]
  rcases pz_tu_w hF hn hk with ⟨h0, h⟩ | ⟨U, p, R, V, e1, e2, hp, hU, e3, h⟩
  · rw [pz_W_w h, if_neg (fun z => h0 n z (pz_w_self hF hn)), if_neg (fun z => h0 _ z (pz_ro_mem hF hn))]
  · have p24 := pz_w_lt hF hn hp
    have hro : pz_ro g n ∈ pz_w g k := by
      rw [e1, ← e2]
      refine List.mem_append_right _ ?_
      rw [← pz_ro_on hF hn hp]
      exact pz_ro_mem hF p24
    have h3 : n ∈ U ++ p :: V.reverse := by
      refine List.mem_append_right _ ?_
      have hq2 := pz_w_self hF hn
      rw [e3] at hq2
      rcases List.mem_append.mp hq2 with z | z
      · exact List.mem_cons_of_mem _ (List.mem_reverse.mpr z)
      · have : n ∈ pz_w g p := by rw [e2]; exact z
        rw [pz_w_anti hF hn p24 this hp]
        exact List.mem_cons_self
    rw [pz_W_w h, if_pos hro, if_pos h3]
theorem pz_Cn_next {g : pz_S} {A B : List Nat} {q r : Nat} {a : Int32} (h : pz_Cn g a (A ++ q :: r :: B)) : g 1 r = nI q := (pz_Cn_suf h).1
/-- turn -/
theorem pz_turn_ok {f : pz_S} {sv : pz_V} {g : pz_S} {n : Nat} (hX : pz_X f sv g n) (hF : pz_Fo g) (hn : n < 24) : pz_J (pz_fu f 9 n 1) (pz_tu (pz_w g n) g (-1)) := by
  have hX0 := hX
  have hw := pz_X_w hX hn
  have hid := pz_X_id hX hn
  have hXm : ∀ y, y ∈ pz_w g n ↔ y ∈ pz_id (sv n) := fun y => pz_X_m hX hn
  have hro := (pz_RI_0 hX hn).2.2.2.2.2.1
  obtain ⟨hI, hT, tn, h2, h1, h9, h10⟩ := hX
  obtain ⟨G, hG⟩ : ∃ G, G = pz_tu (pz_w g n) g (-1) := ⟨_, rfl⟩
  obtain ⟨sv', hs'⟩ : ∃ sv' : pz_V, sv' = fun y => if y = n then (sv n).reverse else sv y := ⟨_, rfl⟩
  have s_n : sv' n = (sv n).reverse := by rw [hs']; exact if_pos rfl
  have s_o : ∀ x, x ≠ n → sv' x = sv x := fun x h => by rw [hs']; exact if_neg h
  have Fk : ∀ k y, k ≠ 9 → pz_fu f 9 n 1 k y = f k y := fun k y h => pz_fu_k h
  have Fi : ∀ k y, y ≠ n → pz_fu f 9 n 1 k y = f k y := fun k y h => pz_fu_i h
  have own : ∀ c, c < 24 → pz_ch f n c → c ≠ n := fun c hc h => pz_chne hI hn hc h
  rw [← hG]
  obtain ⟨a, b, d⟩ := hT n hn tn
  refine ⟨sv', ?_, ?_, by rw [hG]; exact pz_tu_Fo hF hn⟩
  · intro y hy
    by_cases y1 : y = n
    · subst y1
      obtain ⟨⟨⟨P0, P1, P2⟩, hL1, hL3, hL4⟩, hL2⟩ := hI y hy
      refine ⟨⟨⟨by rw [Fk 0 y (by decide)]; exact P0, by rw [Fk 1 y (by decide)]; exact P1, by rw [Fk 2 y (by decide)]; exact P2⟩, ?_, ?_, ?_⟩, ?_⟩
      · unfold pz_L1
        have e1 : pz_fu f 9 y 1 9 y = pz_tg (f 9 y) := by rw [pz_fu_s, h9]; rfl
        rw [s_n, e1, Fk 10 y (by decide), Fk 11 y (by decide), Fk 3 y (by decide), Fk 0 y (by decide), Fk 1 y (by decide), pz_sc_congr P0 (fun j hj z => s_o j (own j hj (Or.inl z))), pz_sc_congr P1 (fun j hj z => s_o j (own j hj (Or.inr z))), pz_rv_tg]
        unfold pz_L1 at hL1
        rw [← hL1]
      · intro c hc h
        rw [Fk 2 c (by decide)]
        exact hL3 c hc h
      · unfold pz_L4
        rw [s_n, pz_id_rev]
        exact ⟨pz_nd_rev hL4.1, fun z hz => hL4.2 z (List.mem_reverse.mp hz)⟩
      · have hT1 : pz_PL (pz_fu f 9 y 1) y (sv y) := pz_PL_congr (f := f) hL2 (Fk 4 y (by decide)) (Fk 5 y (by decide)) (Fk 6 y (by decide)) (Fk 7 y (by decide)) (fun z _ => Fk 8 z (by decide))
        show pz_PL _ y (sv' y)
        rw [s_n]
        exact pz_PL_perm hT1 List.length_reverse (fun w => pz_sm_rev w _) (fun q => List.mem_reverse)
    · refine ⟨pz_Str_congr (hI y hy).1 (Fi 0 y y1) (Fi 1 y y1) (by rw [Fi 2 y y1]; exact (hI y hy).1.1.2.2) (Fi 3 y y1) (Fi 9 y y1) (Fi 10 y y1) (Fi 11 y y1) (fun c hc h => ⟨Fk 2 c (by decide), s_o c (fun z => pz_chtp hI hy hc h (by rw [z]; exact tn))⟩) (s_o y y1), ?_⟩
      exact pz_L2_congr (hI y hy).2 (Fi 4 y y1) (Fi 5 y y1) (Fi 6 y y1) (Fi 7 y y1) (s_o y y1) (fun z _ => Fk 8 z (by decide))
  · intro x hx tx
    have tx : pz_tp f x := (pz_tp_congr (f := f) (fun y => Fk 2 y (by decide)) (fun x c => by
      unfold pz_ch
      rw [Fk 0 x (by decide), Fk 1 x (by decide)]) x).mp tx
    rw [Fk 2 x (by decide)]
    by_cases xn : x = n
    · subst xn
      rw [s_n, h2]
      refine ⟨?_, fun q hq => ?_, ?_⟩
      · rw [pz_id_rev, ← hw, hG]
        exact pz_tu_Cn _ _ _ (pz_W_nd (hF x hx))
      · rw [hG, pz_tu_0 _ _ _ _ _ (by decide)]
        exact b q (List.mem_reverse.mp hq)
      · -- the sums along the turned way
        have key : ∀ (A : List (Nat × Int32)) (q : Nat × Int32) (B : List (Nat × Int32)), sv x = A ++ q :: B → pz_D G q.1 + pz_hD g B = pz_D g (pz_ro g x) := by
          intro A q B e
          have hqm : q.1 ∈ pz_w g x := (hXm q.1).mpr (by rw [e, pz_id_app, pz_id_cons]; exact List.mem_append_right _ List.mem_cons_self)
          cases B with
          | nil =>
            have : q.1 = x := by
              have h3 := hid
              rw [e, pz_id_app] at h3
              have h4 := congrArg List.getLast? h3
              rw [List.getLast?_append, List.getLast?_append] at h4
              exact Option.some.inj h4
            rw [this, hG, pz_tu_Dl hF hx]
            simp [pz_hD]
          | cons r B =>
            have hrm : r.1 ∈ pz_w g x := (hXm r.1).mpr (by rw [e, pz_id_app, pz_id_cons, pz_id_cons]; exact List.mem_append_right _ (List.mem_cons_of_mem _ List.mem_cons_self))
            have hnx : g 1 r.1 = nI q.1 := by
              rw [e, pz_id_app, pz_id_cons, pz_id_cons] at a
              exact pz_Cn_next a
            rw [hG]
            exact pz_tu_Dn hF hx hqm hrm hnx
        have main : ∀ (N C : List (Nat × Int32)), (sv x).reverse = C ++ N → pz_Hk G (pz_fu f 9 x 1 8) N := by
          intro N
          induction N with
          | nil => intro C _; trivial
          | cons q N ih =>
            intro C e
            have e2 : sv x = N.reverse ++ q :: C.reverse := by
              have := congrArg List.reverse e
              rw [List.reverse_reverse, List.reverse_append, List.reverse_cons, List.append_assoc] at this
              exact this
            refine ⟨?_, ih (C ++ [q]) (by rw [e, List.append_assoc]; rfl)⟩
            rw [Fk 8 q.1 (by decide)]
            have k1 := key _ _ _ e2
            have d2 := d
            rw [e2] at d2
            have k2 := (pz_Hk_suf d2).1
            cases N with
            | nil =>
              have hq : q.1 = pz_ro g x := by
                rw [e2] at hro
                exact Option.some.inj hro
              simp only [pz_hD] at k1 ⊢
              rw [← hq] at k1
              grind
            | cons s N =>
              have e3 : sv x = N.reverse ++ s :: q :: C.reverse := by
                rw [e2, List.reverse_cons, List.append_assoc]
                rfl
              have k3 := key _ _ _ e3
              simp only [pz_hD] at k3 ⊢
              grind
        exact main _ [] rfl
    · rw [s_o x xn]
      obtain ⟨a', b', d'⟩ := hT x hx tx
      have off : ∀ y, y ∈ pz_id (sv x) → y ∉ pz_w g n := fun y hy h => xn (pz_apart hI hx hn tx tn hy ((hXm y).mp h))
      refine ⟨pz_Cn_congr (fun y hy => by rw [hG]; exact pz_tu_off _ _ _ _ _ (off y hy)) a', fun q hq => by rw [hG, pz_tu_0 _ _ _ _ _ (by decide)]; exact b' q hq, pz_Hk_off (fun y hy => ⟨by rw [hG]; exact pz_tu_D hF hn (off y hy), Fk 8 y (by decide)⟩) d'⟩
/-- the start: 24 nodes alone -/
theorem pz_start {f g : pz_S} (h0 : ∀ x, x < 24 → f 0 x = -1 ∧ f 1 x = -1 ∧ f 2 x = -1 ∧ f 4 x = 1) (h1 : ∀ k x, x < 24 → k ≠ 0 → k ≠ 1 → k ≠ 2 → k ≠ 4 → f k x = 0) (g0 : ∀ x, x < 24 → g 0 x = 0) (g1 : ∀ x, x < 24 → g 1 x = -1) : pz_J f g := by
  have w : ∀ k, k < 24 → pz_w g k = [k] := fun k hk => pz_w_root hk (g1 k hk)
  have hD : ∀ y, pz_D g y = 0 := fun y => by
    unfold pz_D
    rw [pz_su_congr (w' := fun _ => 0) (fun k hk => by rw [g0 k hk]; simp), pz_su_0]
  refine ⟨fun x => [(x, 0)], fun x hx => ?_, fun x hx _ => ?_, pz_Fo_of (fun n hn => ⟨[n], hn, rfl, g1 n hn⟩)⟩
  · obtain ⟨e0, e1, e2, e4⟩ := h0 x hx
    refine ⟨⟨⟨by rw [e0]; exact pz_P_m, by rw [e1]; exact pz_P_m, by rw [e2]; exact pz_P_m⟩, ?_, ?_, ?_⟩, ?_⟩
    · unfold pz_L1
      rw [e0, e1, h1 9 x hx (by decide) (by decide) (by decide) (by decide), h1 10 x hx (by decide) (by decide) (by decide) (by decide), h1 3 x hx (by decide) (by decide) (by decide) (by decide), pz_rv_0, pz_pt_0, pz_sc_m]
      rfl
    · intro c hc h
      rcases h with h | h
      · rw [e0] at h
        exact absurd h.symm (pz_nm hc)
      · rw [e1] at h
        exact absurd h.symm (pz_nm hc)
    · refine ⟨by simp [pz_id], fun y hy => ?_⟩
      have : y = x := List.mem_singleton.mp hy
      rw [this]
      exact hx
    · refine ⟨e4, ?_, ?_, ?_⟩
      · rw [h1 5 x hx (by decide) (by decide) (by decide) (by decide)]
        rfl
      · rw [h1 6 x hx (by decide) (by decide) (by decide) (by decide)]
        refine ⟨⟨_, List.mem_singleton.mpr rfl, rfl⟩, fun q hq => ?_⟩
        rw [List.mem_singleton.mp hq]
        exact Int32.le_refl _
      · rw [h1 7 x hx (by decide) (by decide) (by decide) (by decide)]
        simp only [pz_sm]
        rw [h1 8 x hx (by decide) (by decide) (by decide) (by decide)]
        rfl
  · refine ⟨⟨?_, trivial⟩, fun q hq => ?_, ?_, trivial⟩
    · rw [g1 x hx, (h0 x hx).2.2.1]
    · rw [List.mem_singleton.mp hq]
      exact (g0 x hx).symm
    · show 0 + f 8 x + 0 = pz_D g x
      rw [h1 8 x hx (by decide) (by decide) (by decide) (by decide), hD]
      rfl
end
section
-- ===== PART A: goes FIRST, ahead of the names: the tables' words, and 'selects' of the private methods out of them =====
/-- a private method of a class that the tables say can be made, by its rows of tables_1 -/
def lw_okq (q : MethodName × Nat) : Prop := (q.1.cls ≠ "java/lang/invoke/MethodHandle" ∧ q.1.cls ≠ "java/lang/invoke/VarHandle") ∧ Cond.instantiable q.1.cls q.2 ∈ tables_1 ∧ Cond.privateMethod q.1 ∈ tables_1 ∧ Cond.instanceMethod q.1 ∈ tables_1
set_option maxRecDepth 100000
theorem lw_p0 : lw_okq (⟨"LinkForest", "expose", "(I)I"⟩, 13) := ⟨⟨by decide +kernel, by decide +kernel⟩, List.mem_of_getElem? (i := 4) rfl, List.mem_of_getElem? (i := 65) rfl, List.mem_of_getElem? (i := 66) rfl⟩
theorem lw_p1 : lw_okq (⟨"LinkForest", "lift", "(I)V"⟩, 13) := ⟨⟨by decide +kernel, by decide +kernel⟩, List.mem_of_getElem? (i := 4) rfl, List.mem_of_getElem? (i := 69) rfl, List.mem_of_getElem? (i := 70) rfl⟩
theorem lw_p2 : lw_okq (⟨"LinkForest", "isTop", "(I)Z"⟩, 13) := ⟨⟨by decide +kernel, by decide +kernel⟩, List.mem_of_getElem? (i := 4) rfl, List.mem_of_getElem? (i := 73) rfl, List.mem_of_getElem? (i := 74) rfl⟩
theorem lw_p3 : lw_okq (⟨"LinkForest", "handDown", "(I)V"⟩, 13) := ⟨⟨by decide +kernel, by decide +kernel⟩, List.mem_of_getElem? (i := 4) rfl, List.mem_of_getElem? (i := 77) rfl, List.mem_of_getElem? (i := 78) rfl⟩
theorem lw_p4 : lw_okq (⟨"LinkForest", "turnPiece", "(I)V"⟩, 13) := ⟨⟨by decide +kernel, by decide +kernel⟩, List.mem_of_getElem? (i := 4) rfl, List.mem_of_getElem? (i := 81) rfl, List.mem_of_getElem? (i := 82) rfl⟩
theorem lw_p5 : lw_okq (⟨"LinkForest", "paintPiece", "(II)V"⟩, 13) := ⟨⟨by decide +kernel, by decide +kernel⟩, List.mem_of_getElem? (i := 4) rfl, List.mem_of_getElem? (i := 85) rfl, List.mem_of_getElem? (i := 86) rfl⟩
theorem lw_p6 : lw_okq (⟨"LinkForest", "rotate", "(I)V"⟩, 13) := ⟨⟨by decide +kernel, by decide +kernel⟩, List.mem_of_getElem? (i := 4) rfl, List.mem_of_getElem? (i := 89) rfl, List.mem_of_getElem? (i := 90) rfl⟩
theorem lw_p7 : lw_okq (⟨"LinkForest", "gather", "(I)V"⟩, 13) := ⟨⟨by decide +kernel, by decide +kernel⟩, List.mem_of_getElem? (i := 4) rfl, List.mem_of_getElem? (i := 93) rfl, List.mem_of_getElem? (i := 94) rfl⟩
theorem lw_p8 : lw_okq (⟨"LinkForest", "gatherChild", "(II)V"⟩, 13) := ⟨⟨by decide +kernel, by decide +kernel⟩, List.mem_of_getElem? (i := 4) rfl, List.mem_of_getElem? (i := 97) rfl, List.mem_of_getElem? (i := 98) rfl⟩
theorem lw_p9 : lw_okq (⟨"LinkForestModel", "onWay", "(II)Z"⟩, 2) := ⟨⟨by decide +kernel, by decide +kernel⟩, List.mem_of_getElem? (i := 143) rfl, List.mem_of_getElem? (i := 204) rfl, List.mem_of_getElem? (i := 205) rfl⟩
def lw_privs_1 : List (MethodName × Nat) := [(⟨"LinkForest", "expose", "(I)I"⟩, 13), (⟨"LinkForest", "lift", "(I)V"⟩, 13), (⟨"LinkForest", "isTop", "(I)Z"⟩, 13), (⟨"LinkForest", "handDown", "(I)V"⟩, 13), (⟨"LinkForest", "turnPiece", "(I)V"⟩, 13), (⟨"LinkForest", "paintPiece", "(II)V"⟩, 13), (⟨"LinkForest", "rotate", "(I)V"⟩, 13), (⟨"LinkForest", "gather", "(I)V"⟩, 13), (⟨"LinkForest", "gatherChild", "(II)V"⟩, 13), (⟨"LinkForestModel", "onWay", "(II)Z"⟩, 2)]
theorem lw_r1 : ∀ q ∈ lw_privs_1, lw_okq q := List.forall_mem_cons.mpr ⟨lw_p0, List.forall_mem_cons.mpr ⟨lw_p1, List.forall_mem_cons.mpr ⟨lw_p2, List.forall_mem_cons.mpr ⟨lw_p3, List.forall_mem_cons.mpr ⟨lw_p4, List.forall_mem_cons.mpr ⟨lw_p5, List.forall_mem_cons.mpr ⟨lw_p6, List.forall_mem_cons.mpr ⟨lw_p7, List.forall_mem_cons.mpr ⟨lw_p8, List.forall_mem_cons.mpr ⟨lw_p9, fun _ h => absurd h List.not_mem_nil⟩⟩⟩⟩⟩⟩⟩⟩⟩⟩
def lw_privs : List (MethodName × Nat) := lw_privs_1
def lw_tbl : List Cond := k2_sels lw_privs ++ tables_1
theorem lw_privs_ok : ∀ q ∈ lw_privs, lw_okq q := lw_r1
-- ===== ONE list of words for every method: the tables' words that hold all through a run =====
def lw_all : List Cond := lw_tbl.filter goodWord
/-- a word of the tables by its place: claim/WORDS.tsv -/
theorem lw_w {w : Cond} (i : Nat) (h : lw_tbl[i]? = some w) (g : goodWord w = true) : w ∈ lw_all := List.mem_filter.mpr ⟨List.mem_of_getElem? h, g⟩
theorem lw_all_tbl {w : Cond} (h : w ∈ lw_all) : w ∈ lw_tbl := (List.mem_filter.mp h).1
theorem lw_self : GoodIn lw_all lw_all := fun w h => ⟨h, good_of_word (List.mem_filter.mp h).2⟩
/-- a class's field words, by their places -/
theorem lw_in (ws : List Cond) (ps : List Nat) (hp : ws = ps.filterMap (fun i => lw_tbl[i]?)) (hg : ws.all goodWord = true) : ∀ w ∈ ws, w ∈ lw_all := by
  intro w h
  have h1 := List.all_eq_true.mp hg w h
  rw [hp] at h
  obtain ⟨i, -, hi⟩ := List.mem_filterMap.mp h
  exact lw_w i hi h1
/-- the words of a contract for the method y with code b, L locals, answer r -/
abbrev ws_ (y : MethodName) (b : ByteArray) (L : Nat) (r : Option FieldType) : List Cond := Cond.code y b L r :: lw_all
theorem lw_meth {y : MethodName} {b : ByteArray} {L : Nat} {r : Option FieldType} (h : Cond.code y b L r ∈ lw_all) : GoodIn lw_all (ws_ y b L r) := by
  intro w hw
  rcases List.mem_cons.mp hw with e | e
  · rw [e]
    exact lw_self _ h
  · exact lw_self _ e
theorem lw_app {a c : List Cond} (ha : ∀ w ∈ a, w ∈ lw_all) (hc : GoodIn lw_all c) : GoodIn lw_all (a ++ c) := by
  intro w hw
  rcases List.mem_append.mp hw with e | e
  · exact lw_self w (ha w e)
  · exact hc w e
/-- what a call through an object asks: cwV n hts (lw_V ..) -/
theorem lw_V {own : String} {idx : Nat} {C : String} {y : MethodName} {b : ByteArray} {L : Nat} {r : Option FieldType} (h1 : Cond.methodLink own idx y ∈ lw_all) (h2 : Cond.instanceMethod y ∈ lw_all) (h3 : Cond.selects C y y ∈ lw_all) (h4 : Cond.initialized C ∈ lw_all) (h5 : Cond.code y b L r ∈ lw_all) : GoodIn lw_all (wsV own idx C y (ws_ y b L r)) := by
  refine lw_app ?_ (lw_meth h5)
  intro w hw
  simp only [List.mem_cons, List.not_mem_nil, or_false] at hw
  rcases hw with e | e | e | e
  · rw [e]; exact h1
  · rw [e]; exact h2
  · rw [e]; exact h3
  · rw [e]; exact h4
/-- what a static call asks: va_cwS n hts (lw_S ..) -/
theorem lw_S {own : String} {idx : Nat} {y : MethodName} {b : ByteArray} {L : Nat} {r : Option FieldType} (h1 : Cond.methodLink own idx y ∈ lw_all) (h2 : Cond.static y ∈ lw_all) (h3 : Cond.initialized y.cls ∈ lw_all) (h4 : Cond.code y b L r ∈ lw_all) : GoodIn lw_all (va_wsS own idx y (ws_ y b L r)) := by
  refine lw_app ?_ (lw_meth h4)
  intro w hw
  simp only [List.mem_cons, List.not_mem_nil, or_false] at hw
  rcases hw with e | e | e
  · rw [e]; exact h1
  · rw [e]; exact h2
  · rw [e]; exact h3
/-- the words of a contract for a method WITH HANDLERS (hh: its table) -/
abbrev wsW_ (y : MethodName) (b : ByteArray) (L : Nat) (r : Option FieldType) (hh : List (Nat × Nat × Nat × Nat)) : List Cond := Cond.codeWith y b L r hh :: lw_all
theorem lw_methW {y : MethodName} {b : ByteArray} {L : Nat} {r : Option FieldType} {hh : List (Nat × Nat × Nat × Nat)} (h : Cond.codeWith y b L r hh ∈ lw_all) : GoodIn lw_all (wsW_ y b L r hh) := by
  intro w hw
  rcases List.mem_cons.mp hw with e | e
  · rw [e]
    exact lw_self _ h
  · exact lw_self _ e
/-- any list of words by their places (lw_in), good -/
theorem lw_good {ws : List Cond} (h : ∀ w ∈ ws, w ∈ lw_all) : GoodIn lw_all ws := fun w hw => lw_self w (h w hw)
/-- what a call of a method with handlers asks: vx_cwVW n hts (lw_VW ..), vx_cwSW n hts (lw_SW ..) -/
theorem lw_VW {own : String} {idx : Nat} {C : String} {y : MethodName} {b : ByteArray} {L : Nat} {r : Option FieldType} {hh : List (Nat × Nat × Nat × Nat)} (h1 : Cond.methodLink own idx y ∈ lw_all) (h2 : Cond.instanceMethod y ∈ lw_all) (h3 : Cond.selects C y y ∈ lw_all) (h4 : Cond.initialized C ∈ lw_all) (h5 : Cond.codeWith y b L r hh ∈ lw_all) : GoodIn lw_all (wsV own idx C y (wsW_ y b L r hh)) := by
  refine lw_app ?_ (lw_methW h5)
  intro w hw
  simp only [List.mem_cons, List.not_mem_nil, or_false] at hw
  rcases hw with e | e | e | e
  · rw [e]; exact h1
  · rw [e]; exact h2
  · rw [e]; exact h3
  · rw [e]; exact h4
theorem lw_SW {own : String} {idx : Nat} {y : MethodName} {b : ByteArray} {L : Nat} {r : Option FieldType} {hh : List (Nat × Nat × Nat × Nat)} (h1 : Cond.methodLink own idx y ∈ lw_all) (h2 : Cond.static y ∈ lw_all) (h3 : Cond.initialized y.cls ∈ lw_all) (h4 : Cond.codeWith y b L r hh ∈ lw_all) : GoodIn lw_all (va_wsS own idx y (wsW_ y b L r hh)) := by
  refine lw_app ?_ (lw_methW h4)
  intro w hw
  simp only [List.mem_cons, List.not_mem_nil, or_false] at hw
  rcases hw with e | e | e
  · rw [e]; exact h1
  · rw [e]; exact h2
  · rw [e]; exact h3
/-- a word by its place in its run of the tables -/
theorem lw_at {r : List Cond} (hr : ∀ w ∈ r, w ∈ lw_tbl) {w : Cond} (i : Nat) (h : r[i]? = some w) : w ∈ lw_tbl := hr w (List.mem_of_getElem? h)
theorem lw_g {w : Cond} (h : w ∈ lw_tbl) (g : goodWord w = true) : w ∈ lw_all := List.mem_filter.mpr ⟨h, g⟩
theorem lw_ms : ∀ w ∈ k2_sels lw_privs, w ∈ lw_tbl := fun w h => show w ∈ k2_sels lw_privs ++ tables_1 from List.mem_append_left _ h
theorem lw_m0 : ∀ w ∈ tables_1, w ∈ lw_tbl := fun w h => show w ∈ k2_sels lw_privs ++ tables_1 from List.mem_append_right (k2_sels lw_privs) h
theorem qs0 : (Cond.selects "LinkForest" ⟨"LinkForest", "expose", "(I)I"⟩ ⟨"LinkForest", "expose", "(I)I"⟩) ∈ lw_all := lw_g (lw_at lw_ms 0 rfl) rfl
theorem qs1 : (Cond.selects "LinkForest" ⟨"LinkForest", "lift", "(I)V"⟩ ⟨"LinkForest", "lift", "(I)V"⟩) ∈ lw_all := lw_g (lw_at lw_ms 1 rfl) rfl
theorem qs2 : (Cond.selects "LinkForest" ⟨"LinkForest", "isTop", "(I)Z"⟩ ⟨"LinkForest", "isTop", "(I)Z"⟩) ∈ lw_all := lw_g (lw_at lw_ms 2 rfl) rfl
theorem qs3 : (Cond.selects "LinkForest" ⟨"LinkForest", "handDown", "(I)V"⟩ ⟨"LinkForest", "handDown", "(I)V"⟩) ∈ lw_all := lw_g (lw_at lw_ms 3 rfl) rfl
theorem qs4 : (Cond.selects "LinkForest" ⟨"LinkForest", "turnPiece", "(I)V"⟩ ⟨"LinkForest", "turnPiece", "(I)V"⟩) ∈ lw_all := lw_g (lw_at lw_ms 4 rfl) rfl
theorem qs5 : (Cond.selects "LinkForest" ⟨"LinkForest", "paintPiece", "(II)V"⟩ ⟨"LinkForest", "paintPiece", "(II)V"⟩) ∈ lw_all := lw_g (lw_at lw_ms 5 rfl) rfl
theorem qs6 : (Cond.selects "LinkForest" ⟨"LinkForest", "rotate", "(I)V"⟩ ⟨"LinkForest", "rotate", "(I)V"⟩) ∈ lw_all := lw_g (lw_at lw_ms 6 rfl) rfl
theorem qs7 : (Cond.selects "LinkForest" ⟨"LinkForest", "gather", "(I)V"⟩ ⟨"LinkForest", "gather", "(I)V"⟩) ∈ lw_all := lw_g (lw_at lw_ms 7 rfl) rfl
theorem qs8 : (Cond.selects "LinkForest" ⟨"LinkForest", "gatherChild", "(II)V"⟩ ⟨"LinkForest", "gatherChild", "(II)V"⟩) ∈ lw_all := lw_g (lw_at lw_ms 8 rfl) rfl
theorem qs9 : (Cond.selects "LinkForestModel" ⟨"LinkForestModel", "onWay", "(II)Z"⟩ ⟨"LinkForestModel", "onWay", "(II)Z"⟩) ∈ lw_all := lw_g (lw_at lw_ms 9 rfl) rfl
end
section
/-! LinkForest -/
set_option maxRecDepth 100000
def RX0 : String := "LinkForest"
def TX0 : u_T := fun k => match k with
  | 0 => ("LinkForest", "left", "[I", true)
  | 1 => ("LinkForest", "right", "[I", true)
  | 2 => ("LinkForest", "above", "[I", true)
  | 3 => ("LinkForest", "value", "[I", true)
  | 4 => ("LinkForest", "size", "[I", true)
  | 5 => ("LinkForest", "sum", "[I", true)
  | 6 => ("LinkForest", "least", "[I", true)
  | 7 => ("LinkForest", "whole", "[I", true)
  | 8 => ("LinkForest", "hanging", "[I", true)
  | 9 => ("LinkForest", "turned", "[Z", true)
  | 10 => ("LinkForest", "painted", "[Z", true)
  | 11 => ("LinkForest", "colour", "[I", true)
  | _ => ("LinkForest", "stack", "[I", true)
def tyX0 : Nat → FieldType := fun k => match k with
  | 0 => .array .int
  | 1 => .array .int
  | 2 => .array .int
  | 3 => .array .int
  | 4 => .array .int
  | 5 => .array .int
  | 6 => .array .int
  | 7 => .array .int
  | 8 => .array .int
  | 9 => .array .boolean
  | 10 => .array .boolean
  | 11 => .array .int
  | _ => .array .int
abbrev wsX00 : List Cond := u_ws RX0 TX0 13
set_option maxRecDepth 100000 in
theorem nmX0 : ∀ a, a < 13 → ∀ b, b < 13 → a ≠ b → (TX0 a).2.1 ≠ (TX0 b).2.1 := by decide +kernel
set_option maxRecDepth 100000 in
theorem tyX0_ok : ∀ k, k < 13 → parseFieldDescriptor (TX0 k).2.2.1 = some (tyX0 k) := by decide +kernel
abbrev cX0_init : ByteArray := prog_1_method_1_code
def yX0_init : MethodName := ⟨RX0, "<init>", "()V"⟩
theorem dX0_init_0 : decode cX0_init 0 = .ok (.aload_n 0, 1) := by decide +kernel
theorem dX0_init_1 : decode cX0_init 1 = .ok (.invokespecial 1, 3) := by decide +kernel
theorem dX0_init_4 : decode cX0_init 4 = .ok (.aload_n 0, 1) := by decide +kernel
theorem dX0_init_5 : decode cX0_init 5 = .ok (.bipush 24, 2) := by decide +kernel
theorem dX0_init_7 : decode cX0_init 7 = .ok (.newarray .int, 2) := by decide +kernel
theorem dX0_init_9 : decode cX0_init 9 = .ok (.putfield 7, 3) := by decide +kernel
theorem dX0_init_12 : decode cX0_init 12 = .ok (.aload_n 0, 1) := by decide +kernel
theorem dX0_init_13 : decode cX0_init 13 = .ok (.bipush 24, 2) := by decide +kernel
theorem dX0_init_15 : decode cX0_init 15 = .ok (.newarray .int, 2) := by decide +kernel
theorem dX0_init_17 : decode cX0_init 17 = .ok (.putfield 13, 3) := by decide +kernel
theorem dX0_init_20 : decode cX0_init 20 = .ok (.aload_n 0, 1) := by decide +kernel
theorem dX0_init_21 : decode cX0_init 21 = .ok (.bipush 24, 2) := by decide +kernel
theorem dX0_init_23 : decode cX0_init 23 = .ok (.newarray .int, 2) := by decide +kernel
theorem dX0_init_25 : decode cX0_init 25 = .ok (.putfield 16, 3) := by decide +kernel
theorem dX0_init_28 : decode cX0_init 28 = .ok (.aload_n 0, 1) := by decide +kernel
theorem dX0_init_29 : decode cX0_init 29 = .ok (.bipush 24, 2) := by decide +kernel
theorem dX0_init_31 : decode cX0_init 31 = .ok (.newarray .int, 2) := by decide +kernel
theorem dX0_init_33 : decode cX0_init 33 = .ok (.putfield 19, 3) := by decide +kernel
theorem dX0_init_36 : decode cX0_init 36 = .ok (.aload_n 0, 1) := by decide +kernel
theorem dX0_init_37 : decode cX0_init 37 = .ok (.bipush 24, 2) := by decide +kernel
theorem dX0_init_39 : decode cX0_init 39 = .ok (.newarray .int, 2) := by decide +kernel
theorem dX0_init_41 : decode cX0_init 41 = .ok (.putfield 22, 3) := by decide +kernel
theorem dX0_init_44 : decode cX0_init 44 = .ok (.aload_n 0, 1) := by decide +kernel
theorem dX0_init_45 : decode cX0_init 45 = .ok (.bipush 24, 2) := by decide +kernel
theorem dX0_init_47 : decode cX0_init 47 = .ok (.newarray .int, 2) := by decide +kernel
theorem dX0_init_49 : decode cX0_init 49 = .ok (.putfield 25, 3) := by decide +kernel
theorem dX0_init_52 : decode cX0_init 52 = .ok (.aload_n 0, 1) := by decide +kernel
theorem dX0_init_53 : decode cX0_init 53 = .ok (.bipush 24, 2) := by decide +kernel
theorem dX0_init_55 : decode cX0_init 55 = .ok (.newarray .int, 2) := by decide +kernel
theorem dX0_init_57 : decode cX0_init 57 = .ok (.putfield 28, 3) := by decide +kernel
theorem dX0_init_60 : decode cX0_init 60 = .ok (.aload_n 0, 1) := by decide +kernel
theorem dX0_init_61 : decode cX0_init 61 = .ok (.bipush 24, 2) := by decide +kernel
theorem dX0_init_63 : decode cX0_init 63 = .ok (.newarray .int, 2) := by decide +kernel
theorem dX0_init_65 : decode cX0_init 65 = .ok (.putfield 31, 3) := by decide +kernel
theorem dX0_init_68 : decode cX0_init 68 = .ok (.aload_n 0, 1) := by decide +kernel
theorem dX0_init_69 : decode cX0_init 69 = .ok (.bipush 24, 2) := by decide +kernel
theorem dX0_init_71 : decode cX0_init 71 = .ok (.newarray .int, 2) := by decide +kernel
theorem dX0_init_73 : decode cX0_init 73 = .ok (.putfield 34, 3) := by decide +kernel
theorem dX0_init_76 : decode cX0_init 76 = .ok (.aload_n 0, 1) := by decide +kernel
theorem dX0_init_77 : decode cX0_init 77 = .ok (.bipush 24, 2) := by decide +kernel
theorem dX0_init_79 : decode cX0_init 79 = .ok (.newarray .boolean, 2) := by decide +kernel
theorem dX0_init_81 : decode cX0_init 81 = .ok (.putfield 37, 3) := by decide +kernel
theorem dX0_init_84 : decode cX0_init 84 = .ok (.aload_n 0, 1) := by decide +kernel
theorem dX0_init_85 : decode cX0_init 85 = .ok (.bipush 24, 2) := by decide +kernel
theorem dX0_init_87 : decode cX0_init 87 = .ok (.newarray .boolean, 2) := by decide +kernel
theorem dX0_init_89 : decode cX0_init 89 = .ok (.putfield 41, 3) := by decide +kernel
theorem dX0_init_92 : decode cX0_init 92 = .ok (.aload_n 0, 1) := by decide +kernel
theorem dX0_init_93 : decode cX0_init 93 = .ok (.bipush 24, 2) := by decide +kernel
theorem dX0_init_95 : decode cX0_init 95 = .ok (.newarray .int, 2) := by decide +kernel
theorem dX0_init_97 : decode cX0_init 97 = .ok (.putfield 44, 3) := by decide +kernel
theorem dX0_init_100 : decode cX0_init 100 = .ok (.aload_n 0, 1) := by decide +kernel
theorem dX0_init_101 : decode cX0_init 101 = .ok (.bipush 24, 2) := by decide +kernel
theorem dX0_init_103 : decode cX0_init 103 = .ok (.newarray .int, 2) := by decide +kernel
theorem dX0_init_105 : decode cX0_init 105 = .ok (.putfield 47, 3) := by decide +kernel
theorem dX0_init_108 : decode cX0_init 108 = .ok (.iconst 0, 1) := by decide +kernel
theorem dX0_init_109 : decode cX0_init 109 = .ok (.istore_n 1, 1) := by decide +kernel
theorem dX0_init_110 : decode cX0_init 110 = .ok (.iload_n 1, 1) := by decide +kernel
theorem dX0_init_111 : decode cX0_init 111 = .ok (.bipush 24, 2) := by decide +kernel
theorem dX0_init_113 : decode cX0_init 113 = .ok (.if_icmp .ge 37, 3) := by decide +kernel
theorem dX0_init_116 : decode cX0_init 116 = .ok (.aload_n 0, 1) := by decide +kernel
theorem dX0_init_117 : decode cX0_init 117 = .ok (.getfield 7, 3) := by decide +kernel
theorem dX0_init_120 : decode cX0_init 120 = .ok (.iload_n 1, 1) := by decide +kernel
theorem dX0_init_121 : decode cX0_init 121 = .ok (.iconst (-1), 1) := by decide +kernel
theorem dX0_init_122 : decode cX0_init 122 = .ok (.iastore, 1) := by decide +kernel
theorem dX0_init_123 : decode cX0_init 123 = .ok (.aload_n 0, 1) := by decide +kernel
theorem dX0_init_124 : decode cX0_init 124 = .ok (.getfield 13, 3) := by decide +kernel
theorem dX0_init_127 : decode cX0_init 127 = .ok (.iload_n 1, 1) := by decide +kernel
theorem dX0_init_128 : decode cX0_init 128 = .ok (.iconst (-1), 1) := by decide +kernel
theorem dX0_init_129 : decode cX0_init 129 = .ok (.iastore, 1) := by decide +kernel
theorem dX0_init_130 : decode cX0_init 130 = .ok (.aload_n 0, 1) := by decide +kernel
theorem dX0_init_131 : decode cX0_init 131 = .ok (.getfield 16, 3) := by decide +kernel
theorem dX0_init_134 : decode cX0_init 134 = .ok (.iload_n 1, 1) := by decide +kernel
theorem dX0_init_135 : decode cX0_init 135 = .ok (.iconst (-1), 1) := by decide +kernel
theorem dX0_init_136 : decode cX0_init 136 = .ok (.iastore, 1) := by decide +kernel
theorem dX0_init_137 : decode cX0_init 137 = .ok (.aload_n 0, 1) := by decide +kernel
theorem dX0_init_138 : decode cX0_init 138 = .ok (.getfield 22, 3) := by decide +kernel
theorem dX0_init_141 : decode cX0_init 141 = .ok (.iload_n 1, 1) := by decide +kernel
theorem dX0_init_142 : decode cX0_init 142 = .ok (.iconst 1, 1) := by decide +kernel
theorem dX0_init_143 : decode cX0_init 143 = .ok (.iastore, 1) := by decide +kernel
theorem dX0_init_144 : decode cX0_init 144 = .ok (.iinc 1 1, 3) := by decide +kernel
theorem dX0_init_147 : decode cX0_init 147 = .ok (.goto (-37), 3) := by decide +kernel
theorem dX0_init_150 : decode cX0_init 150 = .ok (.return_, 1) := by decide +kernel
abbrev cX0_link : ByteArray := prog_1_method_2_code
def yX0_link : MethodName := ⟨RX0, "link", "(II)I"⟩
theorem dX0_link_0 : decode cX0_link 0 = .ok (.iload_n 1, 1) := by decide +kernel
theorem dX0_link_1 : decode cX0_link 1 = .ok (.invokestatic 50, 3) := by decide +kernel
theorem dX0_link_4 : decode cX0_link 4 = .ok (.ifCond .eq 10, 3) := by decide +kernel
theorem dX0_link_7 : decode cX0_link 7 = .ok (.iload_n 2, 1) := by decide +kernel
theorem dX0_link_8 : decode cX0_link 8 = .ok (.invokestatic 50, 3) := by decide +kernel
theorem dX0_link_11 : decode cX0_link 11 = .ok (.ifCond .ne 5, 3) := by decide +kernel
theorem dX0_link_14 : decode cX0_link 14 = .ok (.iconst (-1), 1) := by decide +kernel
theorem dX0_link_15 : decode cX0_link 15 = .ok (.ireturn, 1) := by decide +kernel
theorem dX0_link_16 : decode cX0_link 16 = .ok (.aload_n 0, 1) := by decide +kernel
theorem dX0_link_17 : decode cX0_link 17 = .ok (.iload_n 2, 1) := by decide +kernel
theorem dX0_link_18 : decode cX0_link 18 = .ok (.invokevirtual 54, 3) := by decide +kernel
theorem dX0_link_21 : decode cX0_link 21 = .ok (.istore_n 3, 1) := by decide +kernel
theorem dX0_link_22 : decode cX0_link 22 = .ok (.aload_n 0, 1) := by decide +kernel
theorem dX0_link_23 : decode cX0_link 23 = .ok (.iload_n 1, 1) := by decide +kernel
theorem dX0_link_24 : decode cX0_link 24 = .ok (.invokevirtual 58, 3) := by decide +kernel
theorem dX0_link_27 : decode cX0_link 27 = .ok (.pop, 1) := by decide +kernel
theorem dX0_link_28 : decode cX0_link 28 = .ok (.aload_n 0, 1) := by decide +kernel
theorem dX0_link_29 : decode cX0_link 29 = .ok (.getfield 7, 3) := by decide +kernel
theorem dX0_link_32 : decode cX0_link 32 = .ok (.iload_n 1, 1) := by decide +kernel
theorem dX0_link_33 : decode cX0_link 33 = .ok (.iaload, 1) := by decide +kernel
theorem dX0_link_34 : decode cX0_link 34 = .ok (.ifCond .ge 8, 3) := by decide +kernel
theorem dX0_link_37 : decode cX0_link 37 = .ok (.iload_n 3, 1) := by decide +kernel
theorem dX0_link_38 : decode cX0_link 38 = .ok (.iload_n 1, 1) := by decide +kernel
theorem dX0_link_39 : decode cX0_link 39 = .ok (.if_icmp .ne 5, 3) := by decide +kernel
theorem dX0_link_42 : decode cX0_link 42 = .ok (.iconst (-1), 1) := by decide +kernel
theorem dX0_link_43 : decode cX0_link 43 = .ok (.ireturn, 1) := by decide +kernel
theorem dX0_link_44 : decode cX0_link 44 = .ok (.aload_n 0, 1) := by decide +kernel
theorem dX0_link_45 : decode cX0_link 45 = .ok (.iload_n 2, 1) := by decide +kernel
theorem dX0_link_46 : decode cX0_link 46 = .ok (.invokevirtual 58, 3) := by decide +kernel
theorem dX0_link_49 : decode cX0_link 49 = .ok (.pop, 1) := by decide +kernel
theorem dX0_link_50 : decode cX0_link 50 = .ok (.aload_n 0, 1) := by decide +kernel
theorem dX0_link_51 : decode cX0_link 51 = .ok (.getfield 16, 3) := by decide +kernel
theorem dX0_link_54 : decode cX0_link 54 = .ok (.iload_n 1, 1) := by decide +kernel
theorem dX0_link_55 : decode cX0_link 55 = .ok (.iload_n 2, 1) := by decide +kernel
theorem dX0_link_56 : decode cX0_link 56 = .ok (.iastore, 1) := by decide +kernel
theorem dX0_link_57 : decode cX0_link 57 = .ok (.aload_n 0, 1) := by decide +kernel
theorem dX0_link_58 : decode cX0_link 58 = .ok (.getfield 34, 3) := by decide +kernel
theorem dX0_link_61 : decode cX0_link 61 = .ok (.iload_n 2, 1) := by decide +kernel
theorem dX0_link_62 : decode cX0_link 62 = .ok (.dup2, 1) := by decide +kernel
theorem dX0_link_63 : decode cX0_link 63 = .ok (.iaload, 1) := by decide +kernel
theorem dX0_link_64 : decode cX0_link 64 = .ok (.aload_n 0, 1) := by decide +kernel
theorem dX0_link_65 : decode cX0_link 65 = .ok (.getfield 31, 3) := by decide +kernel
theorem dX0_link_68 : decode cX0_link 68 = .ok (.iload_n 1, 1) := by decide +kernel
theorem dX0_link_69 : decode cX0_link 69 = .ok (.iaload, 1) := by decide +kernel
theorem dX0_link_70 : decode cX0_link 70 = .ok (.iadd, 1) := by decide +kernel
theorem dX0_link_71 : decode cX0_link 71 = .ok (.iastore, 1) := by decide +kernel
theorem dX0_link_72 : decode cX0_link 72 = .ok (.aload_n 0, 1) := by decide +kernel
theorem dX0_link_73 : decode cX0_link 73 = .ok (.iload_n 2, 1) := by decide +kernel
theorem dX0_link_74 : decode cX0_link 74 = .ok (.invokevirtual 61, 3) := by decide +kernel
theorem dX0_link_77 : decode cX0_link 77 = .ok (.iconst 0, 1) := by decide +kernel
theorem dX0_link_78 : decode cX0_link 78 = .ok (.ireturn, 1) := by decide +kernel
abbrev cX0_isNode : ByteArray := prog_1_method_14_code
def yX0_isNode : MethodName := ⟨RX0, "isNode", "(I)Z"⟩
theorem dX0_isNode_0 : decode cX0_isNode 0 = .ok (.iload_n 0, 1) := by decide +kernel
theorem dX0_isNode_1 : decode cX0_isNode 1 = .ok (.ifCond .lt 13, 3) := by decide +kernel
theorem dX0_isNode_4 : decode cX0_isNode 4 = .ok (.iload_n 0, 1) := by decide +kernel
theorem dX0_isNode_5 : decode cX0_isNode 5 = .ok (.bipush 23, 2) := by decide +kernel
theorem dX0_isNode_7 : decode cX0_isNode 7 = .ok (.if_icmp .gt 7, 3) := by decide +kernel
theorem dX0_isNode_10 : decode cX0_isNode 10 = .ok (.iconst 1, 1) := by decide +kernel
theorem dX0_isNode_11 : decode cX0_isNode 11 = .ok (.goto 4, 3) := by decide +kernel
theorem dX0_isNode_14 : decode cX0_isNode 14 = .ok (.iconst 0, 1) := by decide +kernel
theorem dX0_isNode_15 : decode cX0_isNode 15 = .ok (.ireturn, 1) := by decide +kernel
abbrev cX0_root : ByteArray := prog_1_method_7_code
def yX0_root : MethodName := ⟨RX0, "root", "(I)I"⟩
theorem dX0_root_0 : decode cX0_root 0 = .ok (.iload_n 1, 1) := by decide +kernel
theorem dX0_root_1 : decode cX0_root 1 = .ok (.invokestatic 50, 3) := by decide +kernel
theorem dX0_root_4 : decode cX0_root 4 = .ok (.ifCond .ne 5, 3) := by decide +kernel
theorem dX0_root_7 : decode cX0_root 7 = .ok (.iconst (-1), 1) := by decide +kernel
theorem dX0_root_8 : decode cX0_root 8 = .ok (.ireturn, 1) := by decide +kernel
theorem dX0_root_9 : decode cX0_root 9 = .ok (.aload_n 0, 1) := by decide +kernel
theorem dX0_root_10 : decode cX0_root 10 = .ok (.iload_n 1, 1) := by decide +kernel
theorem dX0_root_11 : decode cX0_root 11 = .ok (.invokevirtual 58, 3) := by decide +kernel
theorem dX0_root_14 : decode cX0_root 14 = .ok (.pop, 1) := by decide +kernel
theorem dX0_root_15 : decode cX0_root 15 = .ok (.iload_n 1, 1) := by decide +kernel
theorem dX0_root_16 : decode cX0_root 16 = .ok (.istore_n 2, 1) := by decide +kernel
theorem dX0_root_17 : decode cX0_root 17 = .ok (.aload_n 0, 1) := by decide +kernel
theorem dX0_root_18 : decode cX0_root 18 = .ok (.iload_n 2, 1) := by decide +kernel
theorem dX0_root_19 : decode cX0_root 19 = .ok (.invokevirtual 72, 3) := by decide +kernel
theorem dX0_root_22 : decode cX0_root 22 = .ok (.iconst 0, 1) := by decide +kernel
theorem dX0_root_23 : decode cX0_root 23 = .ok (.istore_n 3, 1) := by decide +kernel
theorem dX0_root_24 : decode cX0_root 24 = .ok (.iload_n 3, 1) := by decide +kernel
theorem dX0_root_25 : decode cX0_root 25 = .ok (.bipush 24, 2) := by decide +kernel
theorem dX0_root_27 : decode cX0_root 27 = .ok (.if_icmp .ge 30, 3) := by decide +kernel
theorem dX0_root_30 : decode cX0_root 30 = .ok (.aload_n 0, 1) := by decide +kernel
theorem dX0_root_31 : decode cX0_root 31 = .ok (.getfield 7, 3) := by decide +kernel
theorem dX0_root_34 : decode cX0_root 34 = .ok (.iload_n 2, 1) := by decide +kernel
theorem dX0_root_35 : decode cX0_root 35 = .ok (.iaload, 1) := by decide +kernel
theorem dX0_root_36 : decode cX0_root 36 = .ok (.ifCond .lt 21, 3) := by decide +kernel
theorem dX0_root_39 : decode cX0_root 39 = .ok (.aload_n 0, 1) := by decide +kernel
theorem dX0_root_40 : decode cX0_root 40 = .ok (.getfield 7, 3) := by decide +kernel
theorem dX0_root_43 : decode cX0_root 43 = .ok (.iload_n 2, 1) := by decide +kernel
theorem dX0_root_44 : decode cX0_root 44 = .ok (.iaload, 1) := by decide +kernel
theorem dX0_root_45 : decode cX0_root 45 = .ok (.istore_n 2, 1) := by decide +kernel
theorem dX0_root_46 : decode cX0_root 46 = .ok (.aload_n 0, 1) := by decide +kernel
theorem dX0_root_47 : decode cX0_root 47 = .ok (.iload_n 2, 1) := by decide +kernel
theorem dX0_root_48 : decode cX0_root 48 = .ok (.invokevirtual 72, 3) := by decide +kernel
theorem dX0_root_51 : decode cX0_root 51 = .ok (.iinc 3 1, 3) := by decide +kernel
theorem dX0_root_54 : decode cX0_root 54 = .ok (.goto (-30), 3) := by decide +kernel
theorem dX0_root_57 : decode cX0_root 57 = .ok (.aload_n 0, 1) := by decide +kernel
theorem dX0_root_58 : decode cX0_root 58 = .ok (.iload_n 2, 1) := by decide +kernel
theorem dX0_root_59 : decode cX0_root 59 = .ok (.invokevirtual 75, 3) := by decide +kernel
theorem dX0_root_62 : decode cX0_root 62 = .ok (.iload_n 2, 1) := by decide +kernel
theorem dX0_root_63 : decode cX0_root 63 = .ok (.ireturn, 1) := by decide +kernel
abbrev cX0_expose : ByteArray := prog_1_method_23_code
def yX0_expose : MethodName := ⟨RX0, "expose", "(I)I"⟩
theorem dX0_expose_0 : decode cX0_expose 0 = .ok (.iconst (-1), 1) := by decide +kernel
theorem dX0_expose_1 : decode cX0_expose 1 = .ok (.istore_n 2, 1) := by decide +kernel
theorem dX0_expose_2 : decode cX0_expose 2 = .ok (.iload_n 1, 1) := by decide +kernel
theorem dX0_expose_3 : decode cX0_expose 3 = .ok (.istore_n 3, 1) := by decide +kernel
theorem dX0_expose_4 : decode cX0_expose 4 = .ok (.iconst 0, 1) := by decide +kernel
theorem dX0_expose_5 : decode cX0_expose 5 = .ok (.istore 4, 2) := by decide +kernel
theorem dX0_expose_7 : decode cX0_expose 7 = .ok (.iload 4, 2) := by decide +kernel
theorem dX0_expose_9 : decode cX0_expose 9 = .ok (.bipush 24, 2) := by decide +kernel
theorem dX0_expose_11 : decode cX0_expose 11 = .ok (.if_icmp .ge 87, 3) := by decide +kernel
theorem dX0_expose_14 : decode cX0_expose 14 = .ok (.iload_n 3, 1) := by decide +kernel
theorem dX0_expose_15 : decode cX0_expose 15 = .ok (.ifCond .lt 83, 3) := by decide +kernel
theorem dX0_expose_18 : decode cX0_expose 18 = .ok (.aload_n 0, 1) := by decide +kernel
theorem dX0_expose_19 : decode cX0_expose 19 = .ok (.iload_n 3, 1) := by decide +kernel
theorem dX0_expose_20 : decode cX0_expose 20 = .ok (.invokevirtual 75, 3) := by decide +kernel
theorem dX0_expose_23 : decode cX0_expose 23 = .ok (.aload_n 0, 1) := by decide +kernel
theorem dX0_expose_24 : decode cX0_expose 24 = .ok (.getfield 13, 3) := by decide +kernel
theorem dX0_expose_27 : decode cX0_expose 27 = .ok (.iload_n 3, 1) := by decide +kernel
theorem dX0_expose_28 : decode cX0_expose 28 = .ok (.iaload, 1) := by decide +kernel
theorem dX0_expose_29 : decode cX0_expose 29 = .ok (.ifCond .lt 23, 3) := by decide +kernel
theorem dX0_expose_32 : decode cX0_expose 32 = .ok (.aload_n 0, 1) := by decide +kernel
theorem dX0_expose_33 : decode cX0_expose 33 = .ok (.getfield 34, 3) := by decide +kernel
theorem dX0_expose_36 : decode cX0_expose 36 = .ok (.iload_n 3, 1) := by decide +kernel
theorem dX0_expose_37 : decode cX0_expose 37 = .ok (.dup2, 1) := by decide +kernel
theorem dX0_expose_38 : decode cX0_expose 38 = .ok (.iaload, 1) := by decide +kernel
theorem dX0_expose_39 : decode cX0_expose 39 = .ok (.aload_n 0, 1) := by decide +kernel
theorem dX0_expose_40 : decode cX0_expose 40 = .ok (.getfield 31, 3) := by decide +kernel
theorem dX0_expose_43 : decode cX0_expose 43 = .ok (.aload_n 0, 1) := by decide +kernel
theorem dX0_expose_44 : decode cX0_expose 44 = .ok (.getfield 13, 3) := by decide +kernel
theorem dX0_expose_47 : decode cX0_expose 47 = .ok (.iload_n 3, 1) := by decide +kernel
theorem dX0_expose_48 : decode cX0_expose 48 = .ok (.iaload, 1) := by decide +kernel
theorem dX0_expose_49 : decode cX0_expose 49 = .ok (.iaload, 1) := by decide +kernel
theorem dX0_expose_50 : decode cX0_expose 50 = .ok (.iadd, 1) := by decide +kernel
theorem dX0_expose_51 : decode cX0_expose 51 = .ok (.iastore, 1) := by decide +kernel
theorem dX0_expose_52 : decode cX0_expose 52 = .ok (.iload_n 2, 1) := by decide +kernel
theorem dX0_expose_53 : decode cX0_expose 53 = .ok (.ifCond .lt 18, 3) := by decide +kernel
theorem dX0_expose_56 : decode cX0_expose 56 = .ok (.aload_n 0, 1) := by decide +kernel
theorem dX0_expose_57 : decode cX0_expose 57 = .ok (.getfield 34, 3) := by decide +kernel
theorem dX0_expose_60 : decode cX0_expose 60 = .ok (.iload_n 3, 1) := by decide +kernel
theorem dX0_expose_61 : decode cX0_expose 61 = .ok (.dup2, 1) := by decide +kernel
theorem dX0_expose_62 : decode cX0_expose 62 = .ok (.iaload, 1) := by decide +kernel
theorem dX0_expose_63 : decode cX0_expose 63 = .ok (.aload_n 0, 1) := by decide +kernel
theorem dX0_expose_64 : decode cX0_expose 64 = .ok (.getfield 31, 3) := by decide +kernel
theorem dX0_expose_67 : decode cX0_expose 67 = .ok (.iload_n 2, 1) := by decide +kernel
theorem dX0_expose_68 : decode cX0_expose 68 = .ok (.iaload, 1) := by decide +kernel
theorem dX0_expose_69 : decode cX0_expose 69 = .ok (.isub, 1) := by decide +kernel
theorem dX0_expose_70 : decode cX0_expose 70 = .ok (.iastore, 1) := by decide +kernel
theorem dX0_expose_71 : decode cX0_expose 71 = .ok (.aload_n 0, 1) := by decide +kernel
theorem dX0_expose_72 : decode cX0_expose 72 = .ok (.getfield 13, 3) := by decide +kernel
theorem dX0_expose_75 : decode cX0_expose 75 = .ok (.iload_n 3, 1) := by decide +kernel
theorem dX0_expose_76 : decode cX0_expose 76 = .ok (.iload_n 2, 1) := by decide +kernel
theorem dX0_expose_77 : decode cX0_expose 77 = .ok (.iastore, 1) := by decide +kernel
theorem dX0_expose_78 : decode cX0_expose 78 = .ok (.aload_n 0, 1) := by decide +kernel
theorem dX0_expose_79 : decode cX0_expose 79 = .ok (.iload_n 3, 1) := by decide +kernel
theorem dX0_expose_80 : decode cX0_expose 80 = .ok (.invokevirtual 61, 3) := by decide +kernel
theorem dX0_expose_83 : decode cX0_expose 83 = .ok (.iload_n 3, 1) := by decide +kernel
theorem dX0_expose_84 : decode cX0_expose 84 = .ok (.istore_n 2, 1) := by decide +kernel
theorem dX0_expose_85 : decode cX0_expose 85 = .ok (.aload_n 0, 1) := by decide +kernel
theorem dX0_expose_86 : decode cX0_expose 86 = .ok (.getfield 16, 3) := by decide +kernel
theorem dX0_expose_89 : decode cX0_expose 89 = .ok (.iload_n 3, 1) := by decide +kernel
theorem dX0_expose_90 : decode cX0_expose 90 = .ok (.iaload, 1) := by decide +kernel
theorem dX0_expose_91 : decode cX0_expose 91 = .ok (.istore_n 3, 1) := by decide +kernel
theorem dX0_expose_92 : decode cX0_expose 92 = .ok (.iinc 4 1, 3) := by decide +kernel
theorem dX0_expose_95 : decode cX0_expose 95 = .ok (.goto (-88), 3) := by decide +kernel
theorem dX0_expose_98 : decode cX0_expose 98 = .ok (.aload_n 0, 1) := by decide +kernel
theorem dX0_expose_99 : decode cX0_expose 99 = .ok (.iload_n 1, 1) := by decide +kernel
theorem dX0_expose_100 : decode cX0_expose 100 = .ok (.invokevirtual 75, 3) := by decide +kernel
theorem dX0_expose_103 : decode cX0_expose 103 = .ok (.iload_n 2, 1) := by decide +kernel
theorem dX0_expose_104 : decode cX0_expose 104 = .ok (.ireturn, 1) := by decide +kernel
abbrev cX0_lift : ByteArray := prog_1_method_22_code
def yX0_lift : MethodName := ⟨RX0, "lift", "(I)V"⟩
theorem dX0_lift_0 : decode cX0_lift 0 = .ok (.iconst 0, 1) := by decide +kernel
theorem dX0_lift_1 : decode cX0_lift 1 = .ok (.istore_n 2, 1) := by decide +kernel
theorem dX0_lift_2 : decode cX0_lift 2 = .ok (.iload_n 1, 1) := by decide +kernel
theorem dX0_lift_3 : decode cX0_lift 3 = .ok (.istore_n 3, 1) := by decide +kernel
theorem dX0_lift_4 : decode cX0_lift 4 = .ok (.aload_n 0, 1) := by decide +kernel
theorem dX0_lift_5 : decode cX0_lift 5 = .ok (.getfield 47, 3) := by decide +kernel
theorem dX0_lift_8 : decode cX0_lift 8 = .ok (.iconst 0, 1) := by decide +kernel
theorem dX0_lift_9 : decode cX0_lift 9 = .ok (.iload_n 1, 1) := by decide +kernel
theorem dX0_lift_10 : decode cX0_lift 10 = .ok (.iastore, 1) := by decide +kernel
theorem dX0_lift_11 : decode cX0_lift 11 = .ok (.iconst 0, 1) := by decide +kernel
theorem dX0_lift_12 : decode cX0_lift 12 = .ok (.istore 4, 2) := by decide +kernel
theorem dX0_lift_14 : decode cX0_lift 14 = .ok (.iload 4, 2) := by decide +kernel
theorem dX0_lift_16 : decode cX0_lift 16 = .ok (.bipush 23, 2) := by decide +kernel
theorem dX0_lift_18 : decode cX0_lift 18 = .ok (.if_icmp .ge 34, 3) := by decide +kernel
theorem dX0_lift_21 : decode cX0_lift 21 = .ok (.aload_n 0, 1) := by decide +kernel
theorem dX0_lift_22 : decode cX0_lift 22 = .ok (.iload_n 3, 1) := by decide +kernel
theorem dX0_lift_23 : decode cX0_lift 23 = .ok (.invokevirtual 84, 3) := by decide +kernel
theorem dX0_lift_26 : decode cX0_lift 26 = .ok (.ifCond .ne 26, 3) := by decide +kernel
theorem dX0_lift_29 : decode cX0_lift 29 = .ok (.aload_n 0, 1) := by decide +kernel
theorem dX0_lift_30 : decode cX0_lift 30 = .ok (.getfield 16, 3) := by decide +kernel
theorem dX0_lift_33 : decode cX0_lift 33 = .ok (.iload_n 3, 1) := by decide +kernel
theorem dX0_lift_34 : decode cX0_lift 34 = .ok (.iaload, 1) := by decide +kernel
theorem dX0_lift_35 : decode cX0_lift 35 = .ok (.istore_n 3, 1) := by decide +kernel
theorem dX0_lift_36 : decode cX0_lift 36 = .ok (.iinc 2 1, 3) := by decide +kernel
theorem dX0_lift_39 : decode cX0_lift 39 = .ok (.aload_n 0, 1) := by decide +kernel
theorem dX0_lift_40 : decode cX0_lift 40 = .ok (.getfield 47, 3) := by decide +kernel
theorem dX0_lift_43 : decode cX0_lift 43 = .ok (.iload_n 2, 1) := by decide +kernel
theorem dX0_lift_44 : decode cX0_lift 44 = .ok (.iload_n 3, 1) := by decide +kernel
theorem dX0_lift_45 : decode cX0_lift 45 = .ok (.iastore, 1) := by decide +kernel
theorem dX0_lift_46 : decode cX0_lift 46 = .ok (.iinc 4 1, 3) := by decide +kernel
theorem dX0_lift_49 : decode cX0_lift 49 = .ok (.goto (-35), 3) := by decide +kernel
theorem dX0_lift_52 : decode cX0_lift 52 = .ok (.iload_n 2, 1) := by decide +kernel
theorem dX0_lift_53 : decode cX0_lift 53 = .ok (.istore 4, 2) := by decide +kernel
theorem dX0_lift_55 : decode cX0_lift 55 = .ok (.iload 4, 2) := by decide +kernel
theorem dX0_lift_57 : decode cX0_lift 57 = .ok (.ifCond .lt 20, 3) := by decide +kernel
theorem dX0_lift_60 : decode cX0_lift 60 = .ok (.aload_n 0, 1) := by decide +kernel
theorem dX0_lift_61 : decode cX0_lift 61 = .ok (.aload_n 0, 1) := by decide +kernel
theorem dX0_lift_62 : decode cX0_lift 62 = .ok (.getfield 47, 3) := by decide +kernel
theorem dX0_lift_65 : decode cX0_lift 65 = .ok (.iload 4, 2) := by decide +kernel
theorem dX0_lift_67 : decode cX0_lift 67 = .ok (.iaload, 1) := by decide +kernel
theorem dX0_lift_68 : decode cX0_lift 68 = .ok (.invokevirtual 72, 3) := by decide +kernel
theorem dX0_lift_71 : decode cX0_lift 71 = .ok (.iinc 4 (-1), 3) := by decide +kernel
theorem dX0_lift_74 : decode cX0_lift 74 = .ok (.goto (-19), 3) := by decide +kernel
theorem dX0_lift_77 : decode cX0_lift 77 = .ok (.iconst 0, 1) := by decide +kernel
theorem dX0_lift_78 : decode cX0_lift 78 = .ok (.istore 4, 2) := by decide +kernel
theorem dX0_lift_80 : decode cX0_lift 80 = .ok (.iload 4, 2) := by decide +kernel
theorem dX0_lift_82 : decode cX0_lift 82 = .ok (.bipush 24, 2) := by decide +kernel
theorem dX0_lift_84 : decode cX0_lift 84 = .ok (.if_icmp .ge 102, 3) := by decide +kernel
theorem dX0_lift_87 : decode cX0_lift 87 = .ok (.aload_n 0, 1) := by decide +kernel
theorem dX0_lift_88 : decode cX0_lift 88 = .ok (.iload_n 1, 1) := by decide +kernel
theorem dX0_lift_89 : decode cX0_lift 89 = .ok (.invokevirtual 84, 3) := by decide +kernel
theorem dX0_lift_92 : decode cX0_lift 92 = .ok (.ifCond .ne 94, 3) := by decide +kernel
theorem dX0_lift_95 : decode cX0_lift 95 = .ok (.aload_n 0, 1) := by decide +kernel
theorem dX0_lift_96 : decode cX0_lift 96 = .ok (.getfield 16, 3) := by decide +kernel
theorem dX0_lift_99 : decode cX0_lift 99 = .ok (.iload_n 1, 1) := by decide +kernel
theorem dX0_lift_100 : decode cX0_lift 100 = .ok (.iaload, 1) := by decide +kernel
theorem dX0_lift_101 : decode cX0_lift 101 = .ok (.istore 5, 2) := by decide +kernel
theorem dX0_lift_103 : decode cX0_lift 103 = .ok (.aload_n 0, 1) := by decide +kernel
theorem dX0_lift_104 : decode cX0_lift 104 = .ok (.iload 5, 2) := by decide +kernel
theorem dX0_lift_106 : decode cX0_lift 106 = .ok (.invokevirtual 84, 3) := by decide +kernel
theorem dX0_lift_109 : decode cX0_lift 109 = .ok (.ifCond .ne 66, 3) := by decide +kernel
theorem dX0_lift_112 : decode cX0_lift 112 = .ok (.aload_n 0, 1) := by decide +kernel
theorem dX0_lift_113 : decode cX0_lift 113 = .ok (.getfield 7, 3) := by decide +kernel
theorem dX0_lift_116 : decode cX0_lift 116 = .ok (.iload 5, 2) := by decide +kernel
theorem dX0_lift_118 : decode cX0_lift 118 = .ok (.iaload, 1) := by decide +kernel
theorem dX0_lift_119 : decode cX0_lift 119 = .ok (.iload_n 1, 1) := by decide +kernel
theorem dX0_lift_120 : decode cX0_lift 120 = .ok (.if_icmp .ne 7, 3) := by decide +kernel
theorem dX0_lift_123 : decode cX0_lift 123 = .ok (.iconst 1, 1) := by decide +kernel
theorem dX0_lift_124 : decode cX0_lift 124 = .ok (.goto 4, 3) := by decide +kernel
theorem dX0_lift_127 : decode cX0_lift 127 = .ok (.iconst 0, 1) := by decide +kernel
theorem dX0_lift_128 : decode cX0_lift 128 = .ok (.aload_n 0, 1) := by decide +kernel
theorem dX0_lift_129 : decode cX0_lift 129 = .ok (.getfield 7, 3) := by decide +kernel
theorem dX0_lift_132 : decode cX0_lift 132 = .ok (.aload_n 0, 1) := by decide +kernel
theorem dX0_lift_133 : decode cX0_lift 133 = .ok (.getfield 16, 3) := by decide +kernel
theorem dX0_lift_136 : decode cX0_lift 136 = .ok (.iload 5, 2) := by decide +kernel
theorem dX0_lift_138 : decode cX0_lift 138 = .ok (.iaload, 1) := by decide +kernel
theorem dX0_lift_139 : decode cX0_lift 139 = .ok (.iaload, 1) := by decide +kernel
theorem dX0_lift_140 : decode cX0_lift 140 = .ok (.iload 5, 2) := by decide +kernel
theorem dX0_lift_142 : decode cX0_lift 142 = .ok (.if_icmp .ne 7, 3) := by decide +kernel
theorem dX0_lift_145 : decode cX0_lift 145 = .ok (.iconst 1, 1) := by decide +kernel
theorem dX0_lift_146 : decode cX0_lift 146 = .ok (.goto 4, 3) := by decide +kernel
theorem dX0_lift_149 : decode cX0_lift 149 = .ok (.iconst 0, 1) := by decide +kernel
theorem dX0_lift_150 : decode cX0_lift 150 = .ok (.if_icmp .ne 7, 3) := by decide +kernel
theorem dX0_lift_153 : decode cX0_lift 153 = .ok (.iconst 1, 1) := by decide +kernel
theorem dX0_lift_154 : decode cX0_lift 154 = .ok (.goto 4, 3) := by decide +kernel
theorem dX0_lift_157 : decode cX0_lift 157 = .ok (.iconst 0, 1) := by decide +kernel
theorem dX0_lift_158 : decode cX0_lift 158 = .ok (.istore 6, 2) := by decide +kernel
theorem dX0_lift_160 : decode cX0_lift 160 = .ok (.aload_n 0, 1) := by decide +kernel
theorem dX0_lift_161 : decode cX0_lift 161 = .ok (.iload 6, 2) := by decide +kernel
theorem dX0_lift_163 : decode cX0_lift 163 = .ok (.ifCond .eq 8, 3) := by decide +kernel
theorem dX0_lift_166 : decode cX0_lift 166 = .ok (.iload 5, 2) := by decide +kernel
theorem dX0_lift_168 : decode cX0_lift 168 = .ok (.goto 4, 3) := by decide +kernel
theorem dX0_lift_171 : decode cX0_lift 171 = .ok (.iload_n 1, 1) := by decide +kernel
theorem dX0_lift_172 : decode cX0_lift 172 = .ok (.invokevirtual 87, 3) := by decide +kernel
theorem dX0_lift_175 : decode cX0_lift 175 = .ok (.aload_n 0, 1) := by decide +kernel
theorem dX0_lift_176 : decode cX0_lift 176 = .ok (.iload_n 1, 1) := by decide +kernel
theorem dX0_lift_177 : decode cX0_lift 177 = .ok (.invokevirtual 87, 3) := by decide +kernel
theorem dX0_lift_180 : decode cX0_lift 180 = .ok (.iinc 4 1, 3) := by decide +kernel
theorem dX0_lift_183 : decode cX0_lift 183 = .ok (.goto (-103), 3) := by decide +kernel
theorem dX0_lift_186 : decode cX0_lift 186 = .ok (.return_, 1) := by decide +kernel
abbrev cX0_isTop : ByteArray := prog_1_method_15_code
def yX0_isTop : MethodName := ⟨RX0, "isTop", "(I)Z"⟩
theorem dX0_isTop_0 : decode cX0_isTop 0 = .ok (.aload_n 0, 1) := by decide +kernel
theorem dX0_isTop_1 : decode cX0_isTop 1 = .ok (.getfield 16, 3) := by decide +kernel
theorem dX0_isTop_4 : decode cX0_isTop 4 = .ok (.iload_n 1, 1) := by decide +kernel
theorem dX0_isTop_5 : decode cX0_isTop 5 = .ok (.iaload, 1) := by decide +kernel
theorem dX0_isTop_6 : decode cX0_isTop 6 = .ok (.istore_n 2, 1) := by decide +kernel
theorem dX0_isTop_7 : decode cX0_isTop 7 = .ok (.iload_n 2, 1) := by decide +kernel
theorem dX0_isTop_8 : decode cX0_isTop 8 = .ok (.ifCond .lt 23, 3) := by decide +kernel
theorem dX0_isTop_11 : decode cX0_isTop 11 = .ok (.aload_n 0, 1) := by decide +kernel
theorem dX0_isTop_12 : decode cX0_isTop 12 = .ok (.getfield 7, 3) := by decide +kernel
theorem dX0_isTop_15 : decode cX0_isTop 15 = .ok (.iload_n 2, 1) := by decide +kernel
theorem dX0_isTop_16 : decode cX0_isTop 16 = .ok (.iaload, 1) := by decide +kernel
theorem dX0_isTop_17 : decode cX0_isTop 17 = .ok (.iload_n 1, 1) := by decide +kernel
theorem dX0_isTop_18 : decode cX0_isTop 18 = .ok (.if_icmp .eq 17, 3) := by decide +kernel
theorem dX0_isTop_21 : decode cX0_isTop 21 = .ok (.aload_n 0, 1) := by decide +kernel
theorem dX0_isTop_22 : decode cX0_isTop 22 = .ok (.getfield 13, 3) := by decide +kernel
theorem dX0_isTop_25 : decode cX0_isTop 25 = .ok (.iload_n 2, 1) := by decide +kernel
theorem dX0_isTop_26 : decode cX0_isTop 26 = .ok (.iaload, 1) := by decide +kernel
theorem dX0_isTop_27 : decode cX0_isTop 27 = .ok (.iload_n 1, 1) := by decide +kernel
theorem dX0_isTop_28 : decode cX0_isTop 28 = .ok (.if_icmp .eq 7, 3) := by decide +kernel
theorem dX0_isTop_31 : decode cX0_isTop 31 = .ok (.iconst 1, 1) := by decide +kernel
theorem dX0_isTop_32 : decode cX0_isTop 32 = .ok (.goto 4, 3) := by decide +kernel
theorem dX0_isTop_35 : decode cX0_isTop 35 = .ok (.iconst 0, 1) := by decide +kernel
theorem dX0_isTop_36 : decode cX0_isTop 36 = .ok (.ireturn, 1) := by decide +kernel
abbrev cX0_handDown : ByteArray := prog_1_method_19_code
def yX0_handDown : MethodName := ⟨RX0, "handDown", "(I)V"⟩
theorem dX0_handDown_0 : decode cX0_handDown 0 = .ok (.aload_n 0, 1) := by decide +kernel
theorem dX0_handDown_1 : decode cX0_handDown 1 = .ok (.getfield 37, 3) := by decide +kernel
theorem dX0_handDown_4 : decode cX0_handDown 4 = .ok (.iload_n 1, 1) := by decide +kernel
theorem dX0_handDown_5 : decode cX0_handDown 5 = .ok (.baload, 1) := by decide +kernel
theorem dX0_handDown_6 : decode cX0_handDown 6 = .ok (.ifCond .eq 56, 3) := by decide +kernel
theorem dX0_handDown_9 : decode cX0_handDown 9 = .ok (.aload_n 0, 1) := by decide +kernel
theorem dX0_handDown_10 : decode cX0_handDown 10 = .ok (.getfield 7, 3) := by decide +kernel
theorem dX0_handDown_13 : decode cX0_handDown 13 = .ok (.iload_n 1, 1) := by decide +kernel
theorem dX0_handDown_14 : decode cX0_handDown 14 = .ok (.iaload, 1) := by decide +kernel
theorem dX0_handDown_15 : decode cX0_handDown 15 = .ok (.istore_n 2, 1) := by decide +kernel
theorem dX0_handDown_16 : decode cX0_handDown 16 = .ok (.aload_n 0, 1) := by decide +kernel
theorem dX0_handDown_17 : decode cX0_handDown 17 = .ok (.getfield 7, 3) := by decide +kernel
theorem dX0_handDown_20 : decode cX0_handDown 20 = .ok (.iload_n 1, 1) := by decide +kernel
theorem dX0_handDown_21 : decode cX0_handDown 21 = .ok (.aload_n 0, 1) := by decide +kernel
theorem dX0_handDown_22 : decode cX0_handDown 22 = .ok (.getfield 13, 3) := by decide +kernel
theorem dX0_handDown_25 : decode cX0_handDown 25 = .ok (.iload_n 1, 1) := by decide +kernel
theorem dX0_handDown_26 : decode cX0_handDown 26 = .ok (.iaload, 1) := by decide +kernel
theorem dX0_handDown_27 : decode cX0_handDown 27 = .ok (.iastore, 1) := by decide +kernel
theorem dX0_handDown_28 : decode cX0_handDown 28 = .ok (.aload_n 0, 1) := by decide +kernel
theorem dX0_handDown_29 : decode cX0_handDown 29 = .ok (.getfield 13, 3) := by decide +kernel
theorem dX0_handDown_32 : decode cX0_handDown 32 = .ok (.iload_n 1, 1) := by decide +kernel
theorem dX0_handDown_33 : decode cX0_handDown 33 = .ok (.iload_n 2, 1) := by decide +kernel
theorem dX0_handDown_34 : decode cX0_handDown 34 = .ok (.iastore, 1) := by decide +kernel
theorem dX0_handDown_35 : decode cX0_handDown 35 = .ok (.aload_n 0, 1) := by decide +kernel
theorem dX0_handDown_36 : decode cX0_handDown 36 = .ok (.aload_n 0, 1) := by decide +kernel
theorem dX0_handDown_37 : decode cX0_handDown 37 = .ok (.getfield 7, 3) := by decide +kernel
theorem dX0_handDown_40 : decode cX0_handDown 40 = .ok (.iload_n 1, 1) := by decide +kernel
theorem dX0_handDown_41 : decode cX0_handDown 41 = .ok (.iaload, 1) := by decide +kernel
theorem dX0_handDown_42 : decode cX0_handDown 42 = .ok (.invokevirtual 81, 3) := by decide +kernel
theorem dX0_handDown_45 : decode cX0_handDown 45 = .ok (.aload_n 0, 1) := by decide +kernel
theorem dX0_handDown_46 : decode cX0_handDown 46 = .ok (.aload_n 0, 1) := by decide +kernel
theorem dX0_handDown_47 : decode cX0_handDown 47 = .ok (.getfield 13, 3) := by decide +kernel
theorem dX0_handDown_50 : decode cX0_handDown 50 = .ok (.iload_n 1, 1) := by decide +kernel
theorem dX0_handDown_51 : decode cX0_handDown 51 = .ok (.iaload, 1) := by decide +kernel
theorem dX0_handDown_52 : decode cX0_handDown 52 = .ok (.invokevirtual 81, 3) := by decide +kernel
theorem dX0_handDown_55 : decode cX0_handDown 55 = .ok (.aload_n 0, 1) := by decide +kernel
theorem dX0_handDown_56 : decode cX0_handDown 56 = .ok (.getfield 37, 3) := by decide +kernel
theorem dX0_handDown_59 : decode cX0_handDown 59 = .ok (.iload_n 1, 1) := by decide +kernel
theorem dX0_handDown_60 : decode cX0_handDown 60 = .ok (.iconst 0, 1) := by decide +kernel
theorem dX0_handDown_61 : decode cX0_handDown 61 = .ok (.bastore, 1) := by decide +kernel
theorem dX0_handDown_62 : decode cX0_handDown 62 = .ok (.aload_n 0, 1) := by decide +kernel
theorem dX0_handDown_63 : decode cX0_handDown 63 = .ok (.getfield 41, 3) := by decide +kernel
theorem dX0_handDown_66 : decode cX0_handDown 66 = .ok (.iload_n 1, 1) := by decide +kernel
theorem dX0_handDown_67 : decode cX0_handDown 67 = .ok (.baload, 1) := by decide +kernel
theorem dX0_handDown_68 : decode cX0_handDown 68 = .ok (.ifCond .eq 60, 3) := by decide +kernel
theorem dX0_handDown_71 : decode cX0_handDown 71 = .ok (.aload_n 0, 1) := by decide +kernel
theorem dX0_handDown_72 : decode cX0_handDown 72 = .ok (.getfield 7, 3) := by decide +kernel
theorem dX0_handDown_75 : decode cX0_handDown 75 = .ok (.iload_n 1, 1) := by decide +kernel
theorem dX0_handDown_76 : decode cX0_handDown 76 = .ok (.iaload, 1) := by decide +kernel
theorem dX0_handDown_77 : decode cX0_handDown 77 = .ok (.ifCond .lt 19, 3) := by decide +kernel
theorem dX0_handDown_80 : decode cX0_handDown 80 = .ok (.aload_n 0, 1) := by decide +kernel
theorem dX0_handDown_81 : decode cX0_handDown 81 = .ok (.aload_n 0, 1) := by decide +kernel
theorem dX0_handDown_82 : decode cX0_handDown 82 = .ok (.getfield 7, 3) := by decide +kernel
theorem dX0_handDown_85 : decode cX0_handDown 85 = .ok (.iload_n 1, 1) := by decide +kernel
theorem dX0_handDown_86 : decode cX0_handDown 86 = .ok (.iaload, 1) := by decide +kernel
theorem dX0_handDown_87 : decode cX0_handDown 87 = .ok (.aload_n 0, 1) := by decide +kernel
theorem dX0_handDown_88 : decode cX0_handDown 88 = .ok (.getfield 44, 3) := by decide +kernel
theorem dX0_handDown_91 : decode cX0_handDown 91 = .ok (.iload_n 1, 1) := by decide +kernel
theorem dX0_handDown_92 : decode cX0_handDown 92 = .ok (.iaload, 1) := by decide +kernel
theorem dX0_handDown_93 : decode cX0_handDown 93 = .ok (.invokevirtual 68, 3) := by decide +kernel
theorem dX0_handDown_96 : decode cX0_handDown 96 = .ok (.aload_n 0, 1) := by decide +kernel
theorem dX0_handDown_97 : decode cX0_handDown 97 = .ok (.getfield 13, 3) := by decide +kernel
theorem dX0_handDown_100 : decode cX0_handDown 100 = .ok (.iload_n 1, 1) := by decide +kernel
theorem dX0_handDown_101 : decode cX0_handDown 101 = .ok (.iaload, 1) := by decide +kernel
theorem dX0_handDown_102 : decode cX0_handDown 102 = .ok (.ifCond .lt 19, 3) := by decide +kernel
theorem dX0_handDown_105 : decode cX0_handDown 105 = .ok (.aload_n 0, 1) := by decide +kernel
theorem dX0_handDown_106 : decode cX0_handDown 106 = .ok (.aload_n 0, 1) := by decide +kernel
theorem dX0_handDown_107 : decode cX0_handDown 107 = .ok (.getfield 13, 3) := by decide +kernel
theorem dX0_handDown_110 : decode cX0_handDown 110 = .ok (.iload_n 1, 1) := by decide +kernel
theorem dX0_handDown_111 : decode cX0_handDown 111 = .ok (.iaload, 1) := by decide +kernel
theorem dX0_handDown_112 : decode cX0_handDown 112 = .ok (.aload_n 0, 1) := by decide +kernel
theorem dX0_handDown_113 : decode cX0_handDown 113 = .ok (.getfield 44, 3) := by decide +kernel
theorem dX0_handDown_116 : decode cX0_handDown 116 = .ok (.iload_n 1, 1) := by decide +kernel
theorem dX0_handDown_117 : decode cX0_handDown 117 = .ok (.iaload, 1) := by decide +kernel
theorem dX0_handDown_118 : decode cX0_handDown 118 = .ok (.invokevirtual 68, 3) := by decide +kernel
theorem dX0_handDown_121 : decode cX0_handDown 121 = .ok (.aload_n 0, 1) := by decide +kernel
theorem dX0_handDown_122 : decode cX0_handDown 122 = .ok (.getfield 41, 3) := by decide +kernel
theorem dX0_handDown_125 : decode cX0_handDown 125 = .ok (.iload_n 1, 1) := by decide +kernel
theorem dX0_handDown_126 : decode cX0_handDown 126 = .ok (.iconst 0, 1) := by decide +kernel
theorem dX0_handDown_127 : decode cX0_handDown 127 = .ok (.bastore, 1) := by decide +kernel
theorem dX0_handDown_128 : decode cX0_handDown 128 = .ok (.return_, 1) := by decide +kernel
abbrev cX0_turnPiece : ByteArray := prog_1_method_20_code
def yX0_turnPiece : MethodName := ⟨RX0, "turnPiece", "(I)V"⟩
theorem dX0_turnPiece_0 : decode cX0_turnPiece 0 = .ok (.iload_n 1, 1) := by decide +kernel
theorem dX0_turnPiece_1 : decode cX0_turnPiece 1 = .ok (.ifCond .lt 23, 3) := by decide +kernel
theorem dX0_turnPiece_4 : decode cX0_turnPiece 4 = .ok (.aload_n 0, 1) := by decide +kernel
theorem dX0_turnPiece_5 : decode cX0_turnPiece 5 = .ok (.getfield 37, 3) := by decide +kernel
theorem dX0_turnPiece_8 : decode cX0_turnPiece 8 = .ok (.iload_n 1, 1) := by decide +kernel
theorem dX0_turnPiece_9 : decode cX0_turnPiece 9 = .ok (.aload_n 0, 1) := by decide +kernel
theorem dX0_turnPiece_10 : decode cX0_turnPiece 10 = .ok (.getfield 37, 3) := by decide +kernel
theorem dX0_turnPiece_13 : decode cX0_turnPiece 13 = .ok (.iload_n 1, 1) := by decide +kernel
theorem dX0_turnPiece_14 : decode cX0_turnPiece 14 = .ok (.baload, 1) := by decide +kernel
theorem dX0_turnPiece_15 : decode cX0_turnPiece 15 = .ok (.ifCond .ne 7, 3) := by decide +kernel
theorem dX0_turnPiece_18 : decode cX0_turnPiece 18 = .ok (.iconst 1, 1) := by decide +kernel
theorem dX0_turnPiece_19 : decode cX0_turnPiece 19 = .ok (.goto 4, 3) := by decide +kernel
theorem dX0_turnPiece_22 : decode cX0_turnPiece 22 = .ok (.iconst 0, 1) := by decide +kernel
theorem dX0_turnPiece_23 : decode cX0_turnPiece 23 = .ok (.bastore, 1) := by decide +kernel
theorem dX0_turnPiece_24 : decode cX0_turnPiece 24 = .ok (.return_, 1) := by decide +kernel
abbrev cX0_paintPiece : ByteArray := prog_1_method_18_code
def yX0_paintPiece : MethodName := ⟨RX0, "paintPiece", "(II)V"⟩
theorem dX0_paintPiece_0 : decode cX0_paintPiece 0 = .ok (.aload_n 0, 1) := by decide +kernel
theorem dX0_paintPiece_1 : decode cX0_paintPiece 1 = .ok (.getfield 31, 3) := by decide +kernel
theorem dX0_paintPiece_4 : decode cX0_paintPiece 4 = .ok (.iload_n 1, 1) := by decide +kernel
theorem dX0_paintPiece_5 : decode cX0_paintPiece 5 = .ok (.dup2, 1) := by decide +kernel
theorem dX0_paintPiece_6 : decode cX0_paintPiece 6 = .ok (.iaload, 1) := by decide +kernel
theorem dX0_paintPiece_7 : decode cX0_paintPiece 7 = .ok (.aload_n 0, 1) := by decide +kernel
theorem dX0_paintPiece_8 : decode cX0_paintPiece 8 = .ok (.getfield 22, 3) := by decide +kernel
theorem dX0_paintPiece_11 : decode cX0_paintPiece 11 = .ok (.iload_n 1, 1) := by decide +kernel
theorem dX0_paintPiece_12 : decode cX0_paintPiece 12 = .ok (.iaload, 1) := by decide +kernel
theorem dX0_paintPiece_13 : decode cX0_paintPiece 13 = .ok (.iload_n 2, 1) := by decide +kernel
theorem dX0_paintPiece_14 : decode cX0_paintPiece 14 = .ok (.imul, 1) := by decide +kernel
theorem dX0_paintPiece_15 : decode cX0_paintPiece 15 = .ok (.aload_n 0, 1) := by decide +kernel
theorem dX0_paintPiece_16 : decode cX0_paintPiece 16 = .ok (.getfield 25, 3) := by decide +kernel
theorem dX0_paintPiece_19 : decode cX0_paintPiece 19 = .ok (.iload_n 1, 1) := by decide +kernel
theorem dX0_paintPiece_20 : decode cX0_paintPiece 20 = .ok (.iaload, 1) := by decide +kernel
theorem dX0_paintPiece_21 : decode cX0_paintPiece 21 = .ok (.isub, 1) := by decide +kernel
theorem dX0_paintPiece_22 : decode cX0_paintPiece 22 = .ok (.iadd, 1) := by decide +kernel
theorem dX0_paintPiece_23 : decode cX0_paintPiece 23 = .ok (.iastore, 1) := by decide +kernel
theorem dX0_paintPiece_24 : decode cX0_paintPiece 24 = .ok (.aload_n 0, 1) := by decide +kernel
theorem dX0_paintPiece_25 : decode cX0_paintPiece 25 = .ok (.getfield 25, 3) := by decide +kernel
theorem dX0_paintPiece_28 : decode cX0_paintPiece 28 = .ok (.iload_n 1, 1) := by decide +kernel
theorem dX0_paintPiece_29 : decode cX0_paintPiece 29 = .ok (.aload_n 0, 1) := by decide +kernel
theorem dX0_paintPiece_30 : decode cX0_paintPiece 30 = .ok (.getfield 22, 3) := by decide +kernel
theorem dX0_paintPiece_33 : decode cX0_paintPiece 33 = .ok (.iload_n 1, 1) := by decide +kernel
theorem dX0_paintPiece_34 : decode cX0_paintPiece 34 = .ok (.iaload, 1) := by decide +kernel
theorem dX0_paintPiece_35 : decode cX0_paintPiece 35 = .ok (.iload_n 2, 1) := by decide +kernel
theorem dX0_paintPiece_36 : decode cX0_paintPiece 36 = .ok (.imul, 1) := by decide +kernel
theorem dX0_paintPiece_37 : decode cX0_paintPiece 37 = .ok (.iastore, 1) := by decide +kernel
theorem dX0_paintPiece_38 : decode cX0_paintPiece 38 = .ok (.aload_n 0, 1) := by decide +kernel
theorem dX0_paintPiece_39 : decode cX0_paintPiece 39 = .ok (.getfield 28, 3) := by decide +kernel
theorem dX0_paintPiece_42 : decode cX0_paintPiece 42 = .ok (.iload_n 1, 1) := by decide +kernel
theorem dX0_paintPiece_43 : decode cX0_paintPiece 43 = .ok (.iload_n 2, 1) := by decide +kernel
theorem dX0_paintPiece_44 : decode cX0_paintPiece 44 = .ok (.iastore, 1) := by decide +kernel
theorem dX0_paintPiece_45 : decode cX0_paintPiece 45 = .ok (.aload_n 0, 1) := by decide +kernel
theorem dX0_paintPiece_46 : decode cX0_paintPiece 46 = .ok (.getfield 19, 3) := by decide +kernel
theorem dX0_paintPiece_49 : decode cX0_paintPiece 49 = .ok (.iload_n 1, 1) := by decide +kernel
theorem dX0_paintPiece_50 : decode cX0_paintPiece 50 = .ok (.iload_n 2, 1) := by decide +kernel
theorem dX0_paintPiece_51 : decode cX0_paintPiece 51 = .ok (.iastore, 1) := by decide +kernel
theorem dX0_paintPiece_52 : decode cX0_paintPiece 52 = .ok (.aload_n 0, 1) := by decide +kernel
theorem dX0_paintPiece_53 : decode cX0_paintPiece 53 = .ok (.getfield 41, 3) := by decide +kernel
theorem dX0_paintPiece_56 : decode cX0_paintPiece 56 = .ok (.iload_n 1, 1) := by decide +kernel
theorem dX0_paintPiece_57 : decode cX0_paintPiece 57 = .ok (.iconst 1, 1) := by decide +kernel
theorem dX0_paintPiece_58 : decode cX0_paintPiece 58 = .ok (.bastore, 1) := by decide +kernel
theorem dX0_paintPiece_59 : decode cX0_paintPiece 59 = .ok (.aload_n 0, 1) := by decide +kernel
theorem dX0_paintPiece_60 : decode cX0_paintPiece 60 = .ok (.getfield 44, 3) := by decide +kernel
theorem dX0_paintPiece_63 : decode cX0_paintPiece 63 = .ok (.iload_n 1, 1) := by decide +kernel
theorem dX0_paintPiece_64 : decode cX0_paintPiece 64 = .ok (.iload_n 2, 1) := by decide +kernel
theorem dX0_paintPiece_65 : decode cX0_paintPiece 65 = .ok (.iastore, 1) := by decide +kernel
theorem dX0_paintPiece_66 : decode cX0_paintPiece 66 = .ok (.return_, 1) := by decide +kernel
abbrev cX0_rotate : ByteArray := prog_1_method_21_code
def yX0_rotate : MethodName := ⟨RX0, "rotate", "(I)V"⟩
theorem dX0_rotate_0 : decode cX0_rotate 0 = .ok (.aload_n 0, 1) := by decide +kernel
theorem dX0_rotate_1 : decode cX0_rotate 1 = .ok (.getfield 16, 3) := by decide +kernel
theorem dX0_rotate_4 : decode cX0_rotate 4 = .ok (.iload_n 1, 1) := by decide +kernel
theorem dX0_rotate_5 : decode cX0_rotate 5 = .ok (.iaload, 1) := by decide +kernel
theorem dX0_rotate_6 : decode cX0_rotate 6 = .ok (.istore_n 2, 1) := by decide +kernel
theorem dX0_rotate_7 : decode cX0_rotate 7 = .ok (.aload_n 0, 1) := by decide +kernel
theorem dX0_rotate_8 : decode cX0_rotate 8 = .ok (.getfield 16, 3) := by decide +kernel
theorem dX0_rotate_11 : decode cX0_rotate 11 = .ok (.iload_n 2, 1) := by decide +kernel
theorem dX0_rotate_12 : decode cX0_rotate 12 = .ok (.iaload, 1) := by decide +kernel
theorem dX0_rotate_13 : decode cX0_rotate 13 = .ok (.istore_n 3, 1) := by decide +kernel
theorem dX0_rotate_14 : decode cX0_rotate 14 = .ok (.aload_n 0, 1) := by decide +kernel
theorem dX0_rotate_15 : decode cX0_rotate 15 = .ok (.iload_n 2, 1) := by decide +kernel
theorem dX0_rotate_16 : decode cX0_rotate 16 = .ok (.invokevirtual 84, 3) := by decide +kernel
theorem dX0_rotate_19 : decode cX0_rotate 19 = .ok (.istore 4, 2) := by decide +kernel
theorem dX0_rotate_21 : decode cX0_rotate 21 = .ok (.aload_n 0, 1) := by decide +kernel
theorem dX0_rotate_22 : decode cX0_rotate 22 = .ok (.getfield 7, 3) := by decide +kernel
theorem dX0_rotate_25 : decode cX0_rotate 25 = .ok (.iload_n 2, 1) := by decide +kernel
theorem dX0_rotate_26 : decode cX0_rotate 26 = .ok (.iaload, 1) := by decide +kernel
theorem dX0_rotate_27 : decode cX0_rotate 27 = .ok (.iload_n 1, 1) := by decide +kernel
theorem dX0_rotate_28 : decode cX0_rotate 28 = .ok (.if_icmp .ne 7, 3) := by decide +kernel
theorem dX0_rotate_31 : decode cX0_rotate 31 = .ok (.iconst 1, 1) := by decide +kernel
theorem dX0_rotate_32 : decode cX0_rotate 32 = .ok (.goto 4, 3) := by decide +kernel
theorem dX0_rotate_35 : decode cX0_rotate 35 = .ok (.iconst 0, 1) := by decide +kernel
theorem dX0_rotate_36 : decode cX0_rotate 36 = .ok (.istore 5, 2) := by decide +kernel
theorem dX0_rotate_38 : decode cX0_rotate 38 = .ok (.iload 5, 2) := by decide +kernel
theorem dX0_rotate_40 : decode cX0_rotate 40 = .ok (.ifCond .eq 12, 3) := by decide +kernel
theorem dX0_rotate_43 : decode cX0_rotate 43 = .ok (.aload_n 0, 1) := by decide +kernel
theorem dX0_rotate_44 : decode cX0_rotate 44 = .ok (.getfield 13, 3) := by decide +kernel
theorem dX0_rotate_47 : decode cX0_rotate 47 = .ok (.iload_n 1, 1) := by decide +kernel
theorem dX0_rotate_48 : decode cX0_rotate 48 = .ok (.iaload, 1) := by decide +kernel
theorem dX0_rotate_49 : decode cX0_rotate 49 = .ok (.goto 9, 3) := by decide +kernel
theorem dX0_rotate_52 : decode cX0_rotate 52 = .ok (.aload_n 0, 1) := by decide +kernel
theorem dX0_rotate_53 : decode cX0_rotate 53 = .ok (.getfield 7, 3) := by decide +kernel
theorem dX0_rotate_56 : decode cX0_rotate 56 = .ok (.iload_n 1, 1) := by decide +kernel
theorem dX0_rotate_57 : decode cX0_rotate 57 = .ok (.iaload, 1) := by decide +kernel
theorem dX0_rotate_58 : decode cX0_rotate 58 = .ok (.istore 6, 2) := by decide +kernel
theorem dX0_rotate_60 : decode cX0_rotate 60 = .ok (.iload 5, 2) := by decide +kernel
theorem dX0_rotate_62 : decode cX0_rotate 62 = .ok (.ifCond .eq 21, 3) := by decide +kernel
theorem dX0_rotate_65 : decode cX0_rotate 65 = .ok (.aload_n 0, 1) := by decide +kernel
theorem dX0_rotate_66 : decode cX0_rotate 66 = .ok (.getfield 7, 3) := by decide +kernel
theorem dX0_rotate_69 : decode cX0_rotate 69 = .ok (.iload_n 2, 1) := by decide +kernel
theorem dX0_rotate_70 : decode cX0_rotate 70 = .ok (.iload 6, 2) := by decide +kernel
theorem dX0_rotate_72 : decode cX0_rotate 72 = .ok (.iastore, 1) := by decide +kernel
theorem dX0_rotate_73 : decode cX0_rotate 73 = .ok (.aload_n 0, 1) := by decide +kernel
theorem dX0_rotate_74 : decode cX0_rotate 74 = .ok (.getfield 13, 3) := by decide +kernel
theorem dX0_rotate_77 : decode cX0_rotate 77 = .ok (.iload_n 1, 1) := by decide +kernel
theorem dX0_rotate_78 : decode cX0_rotate 78 = .ok (.iload_n 2, 1) := by decide +kernel
theorem dX0_rotate_79 : decode cX0_rotate 79 = .ok (.iastore, 1) := by decide +kernel
theorem dX0_rotate_80 : decode cX0_rotate 80 = .ok (.goto 18, 3) := by decide +kernel
theorem dX0_rotate_83 : decode cX0_rotate 83 = .ok (.aload_n 0, 1) := by decide +kernel
theorem dX0_rotate_84 : decode cX0_rotate 84 = .ok (.getfield 13, 3) := by decide +kernel
theorem dX0_rotate_87 : decode cX0_rotate 87 = .ok (.iload_n 2, 1) := by decide +kernel
theorem dX0_rotate_88 : decode cX0_rotate 88 = .ok (.iload 6, 2) := by decide +kernel
theorem dX0_rotate_90 : decode cX0_rotate 90 = .ok (.iastore, 1) := by decide +kernel
theorem dX0_rotate_91 : decode cX0_rotate 91 = .ok (.aload_n 0, 1) := by decide +kernel
theorem dX0_rotate_92 : decode cX0_rotate 92 = .ok (.getfield 7, 3) := by decide +kernel
theorem dX0_rotate_95 : decode cX0_rotate 95 = .ok (.iload_n 1, 1) := by decide +kernel
theorem dX0_rotate_96 : decode cX0_rotate 96 = .ok (.iload_n 2, 1) := by decide +kernel
theorem dX0_rotate_97 : decode cX0_rotate 97 = .ok (.iastore, 1) := by decide +kernel
theorem dX0_rotate_98 : decode cX0_rotate 98 = .ok (.iload 6, 2) := by decide +kernel
theorem dX0_rotate_100 : decode cX0_rotate 100 = .ok (.ifCond .lt 11, 3) := by decide +kernel
theorem dX0_rotate_103 : decode cX0_rotate 103 = .ok (.aload_n 0, 1) := by decide +kernel
theorem dX0_rotate_104 : decode cX0_rotate 104 = .ok (.getfield 16, 3) := by decide +kernel
theorem dX0_rotate_107 : decode cX0_rotate 107 = .ok (.iload 6, 2) := by decide +kernel
theorem dX0_rotate_109 : decode cX0_rotate 109 = .ok (.iload_n 2, 1) := by decide +kernel
theorem dX0_rotate_110 : decode cX0_rotate 110 = .ok (.iastore, 1) := by decide +kernel
theorem dX0_rotate_111 : decode cX0_rotate 111 = .ok (.aload_n 0, 1) := by decide +kernel
theorem dX0_rotate_112 : decode cX0_rotate 112 = .ok (.getfield 16, 3) := by decide +kernel
theorem dX0_rotate_115 : decode cX0_rotate 115 = .ok (.iload_n 2, 1) := by decide +kernel
theorem dX0_rotate_116 : decode cX0_rotate 116 = .ok (.iload_n 1, 1) := by decide +kernel
theorem dX0_rotate_117 : decode cX0_rotate 117 = .ok (.iastore, 1) := by decide +kernel
theorem dX0_rotate_118 : decode cX0_rotate 118 = .ok (.aload_n 0, 1) := by decide +kernel
theorem dX0_rotate_119 : decode cX0_rotate 119 = .ok (.getfield 16, 3) := by decide +kernel
theorem dX0_rotate_122 : decode cX0_rotate 122 = .ok (.iload_n 1, 1) := by decide +kernel
theorem dX0_rotate_123 : decode cX0_rotate 123 = .ok (.iload_n 3, 1) := by decide +kernel
theorem dX0_rotate_124 : decode cX0_rotate 124 = .ok (.iastore, 1) := by decide +kernel
theorem dX0_rotate_125 : decode cX0_rotate 125 = .ok (.iload 4, 2) := by decide +kernel
theorem dX0_rotate_127 : decode cX0_rotate 127 = .ok (.ifCond .ne 30, 3) := by decide +kernel
theorem dX0_rotate_130 : decode cX0_rotate 130 = .ok (.aload_n 0, 1) := by decide +kernel
theorem dX0_rotate_131 : decode cX0_rotate 131 = .ok (.getfield 7, 3) := by decide +kernel
theorem dX0_rotate_134 : decode cX0_rotate 134 = .ok (.iload_n 3, 1) := by decide +kernel
theorem dX0_rotate_135 : decode cX0_rotate 135 = .ok (.iaload, 1) := by decide +kernel
theorem dX0_rotate_136 : decode cX0_rotate 136 = .ok (.iload_n 2, 1) := by decide +kernel
theorem dX0_rotate_137 : decode cX0_rotate 137 = .ok (.if_icmp .ne 13, 3) := by decide +kernel
theorem dX0_rotate_140 : decode cX0_rotate 140 = .ok (.aload_n 0, 1) := by decide +kernel
theorem dX0_rotate_141 : decode cX0_rotate 141 = .ok (.getfield 7, 3) := by decide +kernel
theorem dX0_rotate_144 : decode cX0_rotate 144 = .ok (.iload_n 3, 1) := by decide +kernel
theorem dX0_rotate_145 : decode cX0_rotate 145 = .ok (.iload_n 1, 1) := by decide +kernel
theorem dX0_rotate_146 : decode cX0_rotate 146 = .ok (.iastore, 1) := by decide +kernel
theorem dX0_rotate_147 : decode cX0_rotate 147 = .ok (.goto 10, 3) := by decide +kernel
theorem dX0_rotate_150 : decode cX0_rotate 150 = .ok (.aload_n 0, 1) := by decide +kernel
theorem dX0_rotate_151 : decode cX0_rotate 151 = .ok (.getfield 13, 3) := by decide +kernel
theorem dX0_rotate_154 : decode cX0_rotate 154 = .ok (.iload_n 3, 1) := by decide +kernel
theorem dX0_rotate_155 : decode cX0_rotate 155 = .ok (.iload_n 1, 1) := by decide +kernel
theorem dX0_rotate_156 : decode cX0_rotate 156 = .ok (.iastore, 1) := by decide +kernel
theorem dX0_rotate_157 : decode cX0_rotate 157 = .ok (.aload_n 0, 1) := by decide +kernel
theorem dX0_rotate_158 : decode cX0_rotate 158 = .ok (.iload_n 2, 1) := by decide +kernel
theorem dX0_rotate_159 : decode cX0_rotate 159 = .ok (.invokevirtual 61, 3) := by decide +kernel
theorem dX0_rotate_162 : decode cX0_rotate 162 = .ok (.aload_n 0, 1) := by decide +kernel
theorem dX0_rotate_163 : decode cX0_rotate 163 = .ok (.iload_n 1, 1) := by decide +kernel
theorem dX0_rotate_164 : decode cX0_rotate 164 = .ok (.invokevirtual 61, 3) := by decide +kernel
theorem dX0_rotate_167 : decode cX0_rotate 167 = .ok (.return_, 1) := by decide +kernel
abbrev cX0_gather : ByteArray := prog_1_method_16_code
def yX0_gather : MethodName := ⟨RX0, "gather", "(I)V"⟩
theorem dX0_gather_0 : decode cX0_gather 0 = .ok (.aload_n 0, 1) := by decide +kernel
theorem dX0_gather_1 : decode cX0_gather 1 = .ok (.getfield 22, 3) := by decide +kernel
theorem dX0_gather_4 : decode cX0_gather 4 = .ok (.iload_n 1, 1) := by decide +kernel
theorem dX0_gather_5 : decode cX0_gather 5 = .ok (.iconst 1, 1) := by decide +kernel
theorem dX0_gather_6 : decode cX0_gather 6 = .ok (.iastore, 1) := by decide +kernel
theorem dX0_gather_7 : decode cX0_gather 7 = .ok (.aload_n 0, 1) := by decide +kernel
theorem dX0_gather_8 : decode cX0_gather 8 = .ok (.getfield 25, 3) := by decide +kernel
theorem dX0_gather_11 : decode cX0_gather 11 = .ok (.iload_n 1, 1) := by decide +kernel
theorem dX0_gather_12 : decode cX0_gather 12 = .ok (.aload_n 0, 1) := by decide +kernel
theorem dX0_gather_13 : decode cX0_gather 13 = .ok (.getfield 19, 3) := by decide +kernel
theorem dX0_gather_16 : decode cX0_gather 16 = .ok (.iload_n 1, 1) := by decide +kernel
theorem dX0_gather_17 : decode cX0_gather 17 = .ok (.iaload, 1) := by decide +kernel
theorem dX0_gather_18 : decode cX0_gather 18 = .ok (.iastore, 1) := by decide +kernel
theorem dX0_gather_19 : decode cX0_gather 19 = .ok (.aload_n 0, 1) := by decide +kernel
theorem dX0_gather_20 : decode cX0_gather 20 = .ok (.getfield 28, 3) := by decide +kernel
theorem dX0_gather_23 : decode cX0_gather 23 = .ok (.iload_n 1, 1) := by decide +kernel
theorem dX0_gather_24 : decode cX0_gather 24 = .ok (.aload_n 0, 1) := by decide +kernel
theorem dX0_gather_25 : decode cX0_gather 25 = .ok (.getfield 19, 3) := by decide +kernel
theorem dX0_gather_28 : decode cX0_gather 28 = .ok (.iload_n 1, 1) := by decide +kernel
theorem dX0_gather_29 : decode cX0_gather 29 = .ok (.iaload, 1) := by decide +kernel
theorem dX0_gather_30 : decode cX0_gather 30 = .ok (.iastore, 1) := by decide +kernel
theorem dX0_gather_31 : decode cX0_gather 31 = .ok (.aload_n 0, 1) := by decide +kernel
theorem dX0_gather_32 : decode cX0_gather 32 = .ok (.getfield 31, 3) := by decide +kernel
theorem dX0_gather_35 : decode cX0_gather 35 = .ok (.iload_n 1, 1) := by decide +kernel
theorem dX0_gather_36 : decode cX0_gather 36 = .ok (.aload_n 0, 1) := by decide +kernel
theorem dX0_gather_37 : decode cX0_gather 37 = .ok (.getfield 19, 3) := by decide +kernel
theorem dX0_gather_40 : decode cX0_gather 40 = .ok (.iload_n 1, 1) := by decide +kernel
theorem dX0_gather_41 : decode cX0_gather 41 = .ok (.iaload, 1) := by decide +kernel
theorem dX0_gather_42 : decode cX0_gather 42 = .ok (.aload_n 0, 1) := by decide +kernel
theorem dX0_gather_43 : decode cX0_gather 43 = .ok (.getfield 34, 3) := by decide +kernel
theorem dX0_gather_46 : decode cX0_gather 46 = .ok (.iload_n 1, 1) := by decide +kernel
theorem dX0_gather_47 : decode cX0_gather 47 = .ok (.iaload, 1) := by decide +kernel
theorem dX0_gather_48 : decode cX0_gather 48 = .ok (.iadd, 1) := by decide +kernel
theorem dX0_gather_49 : decode cX0_gather 49 = .ok (.iastore, 1) := by decide +kernel
theorem dX0_gather_50 : decode cX0_gather 50 = .ok (.aload_n 0, 1) := by decide +kernel
theorem dX0_gather_51 : decode cX0_gather 51 = .ok (.iload_n 1, 1) := by decide +kernel
theorem dX0_gather_52 : decode cX0_gather 52 = .ok (.aload_n 0, 1) := by decide +kernel
theorem dX0_gather_53 : decode cX0_gather 53 = .ok (.getfield 7, 3) := by decide +kernel
theorem dX0_gather_56 : decode cX0_gather 56 = .ok (.iload_n 1, 1) := by decide +kernel
theorem dX0_gather_57 : decode cX0_gather 57 = .ok (.iaload, 1) := by decide +kernel
theorem dX0_gather_58 : decode cX0_gather 58 = .ok (.invokevirtual 78, 3) := by decide +kernel
theorem dX0_gather_61 : decode cX0_gather 61 = .ok (.aload_n 0, 1) := by decide +kernel
theorem dX0_gather_62 : decode cX0_gather 62 = .ok (.iload_n 1, 1) := by decide +kernel
theorem dX0_gather_63 : decode cX0_gather 63 = .ok (.aload_n 0, 1) := by decide +kernel
theorem dX0_gather_64 : decode cX0_gather 64 = .ok (.getfield 13, 3) := by decide +kernel
theorem dX0_gather_67 : decode cX0_gather 67 = .ok (.iload_n 1, 1) := by decide +kernel
theorem dX0_gather_68 : decode cX0_gather 68 = .ok (.iaload, 1) := by decide +kernel
theorem dX0_gather_69 : decode cX0_gather 69 = .ok (.invokevirtual 78, 3) := by decide +kernel
theorem dX0_gather_72 : decode cX0_gather 72 = .ok (.return_, 1) := by decide +kernel
abbrev cX0_gatherChild : ByteArray := prog_1_method_17_code
def yX0_gatherChild : MethodName := ⟨RX0, "gatherChild", "(II)V"⟩
theorem dX0_gatherChild_0 : decode cX0_gatherChild 0 = .ok (.iload_n 2, 1) := by decide +kernel
theorem dX0_gatherChild_1 : decode cX0_gatherChild 1 = .ok (.ifCond .lt 84, 3) := by decide +kernel
theorem dX0_gatherChild_4 : decode cX0_gatherChild 4 = .ok (.aload_n 0, 1) := by decide +kernel
theorem dX0_gatherChild_5 : decode cX0_gatherChild 5 = .ok (.getfield 22, 3) := by decide +kernel
theorem dX0_gatherChild_8 : decode cX0_gatherChild 8 = .ok (.iload_n 1, 1) := by decide +kernel
theorem dX0_gatherChild_9 : decode cX0_gatherChild 9 = .ok (.dup2, 1) := by decide +kernel
theorem dX0_gatherChild_10 : decode cX0_gatherChild 10 = .ok (.iaload, 1) := by decide +kernel
theorem dX0_gatherChild_11 : decode cX0_gatherChild 11 = .ok (.aload_n 0, 1) := by decide +kernel
theorem dX0_gatherChild_12 : decode cX0_gatherChild 12 = .ok (.getfield 22, 3) := by decide +kernel
theorem dX0_gatherChild_15 : decode cX0_gatherChild 15 = .ok (.iload_n 2, 1) := by decide +kernel
theorem dX0_gatherChild_16 : decode cX0_gatherChild 16 = .ok (.iaload, 1) := by decide +kernel
theorem dX0_gatherChild_17 : decode cX0_gatherChild 17 = .ok (.iadd, 1) := by decide +kernel
theorem dX0_gatherChild_18 : decode cX0_gatherChild 18 = .ok (.iastore, 1) := by decide +kernel
theorem dX0_gatherChild_19 : decode cX0_gatherChild 19 = .ok (.aload_n 0, 1) := by decide +kernel
theorem dX0_gatherChild_20 : decode cX0_gatherChild 20 = .ok (.getfield 25, 3) := by decide +kernel
theorem dX0_gatherChild_23 : decode cX0_gatherChild 23 = .ok (.iload_n 1, 1) := by decide +kernel
theorem dX0_gatherChild_24 : decode cX0_gatherChild 24 = .ok (.dup2, 1) := by decide +kernel
theorem dX0_gatherChild_25 : decode cX0_gatherChild 25 = .ok (.iaload, 1) := by decide +kernel
theorem dX0_gatherChild_26 : decode cX0_gatherChild 26 = .ok (.aload_n 0, 1) := by decide +kernel
theorem dX0_gatherChild_27 : decode cX0_gatherChild 27 = .ok (.getfield 25, 3) := by decide +kernel
theorem dX0_gatherChild_30 : decode cX0_gatherChild 30 = .ok (.iload_n 2, 1) := by decide +kernel
theorem dX0_gatherChild_31 : decode cX0_gatherChild 31 = .ok (.iaload, 1) := by decide +kernel
theorem dX0_gatherChild_32 : decode cX0_gatherChild 32 = .ok (.iadd, 1) := by decide +kernel
theorem dX0_gatherChild_33 : decode cX0_gatherChild 33 = .ok (.iastore, 1) := by decide +kernel
theorem dX0_gatherChild_34 : decode cX0_gatherChild 34 = .ok (.aload_n 0, 1) := by decide +kernel
theorem dX0_gatherChild_35 : decode cX0_gatherChild 35 = .ok (.getfield 28, 3) := by decide +kernel
theorem dX0_gatherChild_38 : decode cX0_gatherChild 38 = .ok (.iload_n 1, 1) := by decide +kernel
theorem dX0_gatherChild_39 : decode cX0_gatherChild 39 = .ok (.aload_n 0, 1) := by decide +kernel
theorem dX0_gatherChild_40 : decode cX0_gatherChild 40 = .ok (.getfield 28, 3) := by decide +kernel
theorem dX0_gatherChild_43 : decode cX0_gatherChild 43 = .ok (.iload_n 2, 1) := by decide +kernel
theorem dX0_gatherChild_44 : decode cX0_gatherChild 44 = .ok (.iaload, 1) := by decide +kernel
theorem dX0_gatherChild_45 : decode cX0_gatherChild 45 = .ok (.aload_n 0, 1) := by decide +kernel
theorem dX0_gatherChild_46 : decode cX0_gatherChild 46 = .ok (.getfield 28, 3) := by decide +kernel
theorem dX0_gatherChild_49 : decode cX0_gatherChild 49 = .ok (.iload_n 1, 1) := by decide +kernel
theorem dX0_gatherChild_50 : decode cX0_gatherChild 50 = .ok (.iaload, 1) := by decide +kernel
theorem dX0_gatherChild_51 : decode cX0_gatherChild 51 = .ok (.if_icmp .ge 12, 3) := by decide +kernel
theorem dX0_gatherChild_54 : decode cX0_gatherChild 54 = .ok (.aload_n 0, 1) := by decide +kernel
theorem dX0_gatherChild_55 : decode cX0_gatherChild 55 = .ok (.getfield 28, 3) := by decide +kernel
theorem dX0_gatherChild_58 : decode cX0_gatherChild 58 = .ok (.iload_n 2, 1) := by decide +kernel
theorem dX0_gatherChild_59 : decode cX0_gatherChild 59 = .ok (.iaload, 1) := by decide +kernel
theorem dX0_gatherChild_60 : decode cX0_gatherChild 60 = .ok (.goto 9, 3) := by decide +kernel
theorem dX0_gatherChild_63 : decode cX0_gatherChild 63 = .ok (.aload_n 0, 1) := by decide +kernel
theorem dX0_gatherChild_64 : decode cX0_gatherChild 64 = .ok (.getfield 28, 3) := by decide +kernel
theorem dX0_gatherChild_67 : decode cX0_gatherChild 67 = .ok (.iload_n 1, 1) := by decide +kernel
theorem dX0_gatherChild_68 : decode cX0_gatherChild 68 = .ok (.iaload, 1) := by decide +kernel
theorem dX0_gatherChild_69 : decode cX0_gatherChild 69 = .ok (.iastore, 1) := by decide +kernel
theorem dX0_gatherChild_70 : decode cX0_gatherChild 70 = .ok (.aload_n 0, 1) := by decide +kernel
theorem dX0_gatherChild_71 : decode cX0_gatherChild 71 = .ok (.getfield 31, 3) := by decide +kernel
theorem dX0_gatherChild_74 : decode cX0_gatherChild 74 = .ok (.iload_n 1, 1) := by decide +kernel
theorem dX0_gatherChild_75 : decode cX0_gatherChild 75 = .ok (.dup2, 1) := by decide +kernel
theorem dX0_gatherChild_76 : decode cX0_gatherChild 76 = .ok (.iaload, 1) := by decide +kernel
theorem dX0_gatherChild_77 : decode cX0_gatherChild 77 = .ok (.aload_n 0, 1) := by decide +kernel
theorem dX0_gatherChild_78 : decode cX0_gatherChild 78 = .ok (.getfield 31, 3) := by decide +kernel
theorem dX0_gatherChild_81 : decode cX0_gatherChild 81 = .ok (.iload_n 2, 1) := by decide +kernel
theorem dX0_gatherChild_82 : decode cX0_gatherChild 82 = .ok (.iaload, 1) := by decide +kernel
theorem dX0_gatherChild_83 : decode cX0_gatherChild 83 = .ok (.iadd, 1) := by decide +kernel
theorem dX0_gatherChild_84 : decode cX0_gatherChild 84 = .ok (.iastore, 1) := by decide +kernel
theorem dX0_gatherChild_85 : decode cX0_gatherChild 85 = .ok (.return_, 1) := by decide +kernel
abbrev cX0_cut : ByteArray := prog_1_method_3_code
def yX0_cut : MethodName := ⟨RX0, "cut", "(I)I"⟩
theorem dX0_cut_0 : decode cX0_cut 0 = .ok (.aload_n 0, 1) := by decide +kernel
theorem dX0_cut_1 : decode cX0_cut 1 = .ok (.iload_n 1, 1) := by decide +kernel
theorem dX0_cut_2 : decode cX0_cut 2 = .ok (.invokevirtual 65, 3) := by decide +kernel
theorem dX0_cut_5 : decode cX0_cut 5 = .ok (.istore_n 2, 1) := by decide +kernel
theorem dX0_cut_6 : decode cX0_cut 6 = .ok (.iload_n 2, 1) := by decide +kernel
theorem dX0_cut_7 : decode cX0_cut 7 = .ok (.ifCond .ge 5, 3) := by decide +kernel
theorem dX0_cut_10 : decode cX0_cut 10 = .ok (.iconst (-1), 1) := by decide +kernel
theorem dX0_cut_11 : decode cX0_cut 11 = .ok (.ireturn, 1) := by decide +kernel
theorem dX0_cut_12 : decode cX0_cut 12 = .ok (.aload_n 0, 1) := by decide +kernel
theorem dX0_cut_13 : decode cX0_cut 13 = .ok (.iload_n 1, 1) := by decide +kernel
theorem dX0_cut_14 : decode cX0_cut 14 = .ok (.invokevirtual 58, 3) := by decide +kernel
theorem dX0_cut_17 : decode cX0_cut 17 = .ok (.pop, 1) := by decide +kernel
theorem dX0_cut_18 : decode cX0_cut 18 = .ok (.aload_n 0, 1) := by decide +kernel
theorem dX0_cut_19 : decode cX0_cut 19 = .ok (.getfield 16, 3) := by decide +kernel
theorem dX0_cut_22 : decode cX0_cut 22 = .ok (.aload_n 0, 1) := by decide +kernel
theorem dX0_cut_23 : decode cX0_cut 23 = .ok (.getfield 7, 3) := by decide +kernel
theorem dX0_cut_26 : decode cX0_cut 26 = .ok (.iload_n 1, 1) := by decide +kernel
theorem dX0_cut_27 : decode cX0_cut 27 = .ok (.iaload, 1) := by decide +kernel
theorem dX0_cut_28 : decode cX0_cut 28 = .ok (.iconst (-1), 1) := by decide +kernel
theorem dX0_cut_29 : decode cX0_cut 29 = .ok (.iastore, 1) := by decide +kernel
theorem dX0_cut_30 : decode cX0_cut 30 = .ok (.aload_n 0, 1) := by decide +kernel
theorem dX0_cut_31 : decode cX0_cut 31 = .ok (.getfield 7, 3) := by decide +kernel
theorem dX0_cut_34 : decode cX0_cut 34 = .ok (.iload_n 1, 1) := by decide +kernel
theorem dX0_cut_35 : decode cX0_cut 35 = .ok (.iconst (-1), 1) := by decide +kernel
theorem dX0_cut_36 : decode cX0_cut 36 = .ok (.iastore, 1) := by decide +kernel
theorem dX0_cut_37 : decode cX0_cut 37 = .ok (.aload_n 0, 1) := by decide +kernel
theorem dX0_cut_38 : decode cX0_cut 38 = .ok (.iload_n 1, 1) := by decide +kernel
theorem dX0_cut_39 : decode cX0_cut 39 = .ok (.invokevirtual 61, 3) := by decide +kernel
theorem dX0_cut_42 : decode cX0_cut 42 = .ok (.iload_n 2, 1) := by decide +kernel
theorem dX0_cut_43 : decode cX0_cut 43 = .ok (.ireturn, 1) := by decide +kernel
abbrev cX0_parent : ByteArray := prog_1_method_8_code
def yX0_parent : MethodName := ⟨RX0, "parent", "(I)I"⟩
theorem dX0_parent_0 : decode cX0_parent 0 = .ok (.iload_n 1, 1) := by decide +kernel
theorem dX0_parent_1 : decode cX0_parent 1 = .ok (.invokestatic 50, 3) := by decide +kernel
theorem dX0_parent_4 : decode cX0_parent 4 = .ok (.ifCond .ne 5, 3) := by decide +kernel
theorem dX0_parent_7 : decode cX0_parent 7 = .ok (.iconst (-1), 1) := by decide +kernel
theorem dX0_parent_8 : decode cX0_parent 8 = .ok (.ireturn, 1) := by decide +kernel
theorem dX0_parent_9 : decode cX0_parent 9 = .ok (.aload_n 0, 1) := by decide +kernel
theorem dX0_parent_10 : decode cX0_parent 10 = .ok (.iload_n 1, 1) := by decide +kernel
theorem dX0_parent_11 : decode cX0_parent 11 = .ok (.invokevirtual 58, 3) := by decide +kernel
theorem dX0_parent_14 : decode cX0_parent 14 = .ok (.pop, 1) := by decide +kernel
theorem dX0_parent_15 : decode cX0_parent 15 = .ok (.aload_n 0, 1) := by decide +kernel
theorem dX0_parent_16 : decode cX0_parent 16 = .ok (.iload_n 1, 1) := by decide +kernel
theorem dX0_parent_17 : decode cX0_parent 17 = .ok (.invokevirtual 72, 3) := by decide +kernel
theorem dX0_parent_20 : decode cX0_parent 20 = .ok (.aload_n 0, 1) := by decide +kernel
theorem dX0_parent_21 : decode cX0_parent 21 = .ok (.getfield 7, 3) := by decide +kernel
theorem dX0_parent_24 : decode cX0_parent 24 = .ok (.iload_n 1, 1) := by decide +kernel
theorem dX0_parent_25 : decode cX0_parent 25 = .ok (.iaload, 1) := by decide +kernel
theorem dX0_parent_26 : decode cX0_parent 26 = .ok (.istore_n 2, 1) := by decide +kernel
theorem dX0_parent_27 : decode cX0_parent 27 = .ok (.iload_n 2, 1) := by decide +kernel
theorem dX0_parent_28 : decode cX0_parent 28 = .ok (.ifCond .ge 5, 3) := by decide +kernel
theorem dX0_parent_31 : decode cX0_parent 31 = .ok (.iconst (-1), 1) := by decide +kernel
theorem dX0_parent_32 : decode cX0_parent 32 = .ok (.ireturn, 1) := by decide +kernel
theorem dX0_parent_33 : decode cX0_parent 33 = .ok (.aload_n 0, 1) := by decide +kernel
theorem dX0_parent_34 : decode cX0_parent 34 = .ok (.iload_n 2, 1) := by decide +kernel
theorem dX0_parent_35 : decode cX0_parent 35 = .ok (.invokevirtual 72, 3) := by decide +kernel
theorem dX0_parent_38 : decode cX0_parent 38 = .ok (.iconst 0, 1) := by decide +kernel
theorem dX0_parent_39 : decode cX0_parent 39 = .ok (.istore_n 3, 1) := by decide +kernel
theorem dX0_parent_40 : decode cX0_parent 40 = .ok (.iload_n 3, 1) := by decide +kernel
theorem dX0_parent_41 : decode cX0_parent 41 = .ok (.bipush 24, 2) := by decide +kernel
theorem dX0_parent_43 : decode cX0_parent 43 = .ok (.if_icmp .ge 30, 3) := by decide +kernel
theorem dX0_parent_46 : decode cX0_parent 46 = .ok (.aload_n 0, 1) := by decide +kernel
theorem dX0_parent_47 : decode cX0_parent 47 = .ok (.getfield 13, 3) := by decide +kernel
theorem dX0_parent_50 : decode cX0_parent 50 = .ok (.iload_n 2, 1) := by decide +kernel
theorem dX0_parent_51 : decode cX0_parent 51 = .ok (.iaload, 1) := by decide +kernel
theorem dX0_parent_52 : decode cX0_parent 52 = .ok (.ifCond .lt 21, 3) := by decide +kernel
theorem dX0_parent_55 : decode cX0_parent 55 = .ok (.aload_n 0, 1) := by decide +kernel
theorem dX0_parent_56 : decode cX0_parent 56 = .ok (.getfield 13, 3) := by decide +kernel
theorem dX0_parent_59 : decode cX0_parent 59 = .ok (.iload_n 2, 1) := by decide +kernel
theorem dX0_parent_60 : decode cX0_parent 60 = .ok (.iaload, 1) := by decide +kernel
theorem dX0_parent_61 : decode cX0_parent 61 = .ok (.istore_n 2, 1) := by decide +kernel
theorem dX0_parent_62 : decode cX0_parent 62 = .ok (.aload_n 0, 1) := by decide +kernel
theorem dX0_parent_63 : decode cX0_parent 63 = .ok (.iload_n 2, 1) := by decide +kernel
theorem dX0_parent_64 : decode cX0_parent 64 = .ok (.invokevirtual 72, 3) := by decide +kernel
theorem dX0_parent_67 : decode cX0_parent 67 = .ok (.iinc 3 1, 3) := by decide +kernel
theorem dX0_parent_70 : decode cX0_parent 70 = .ok (.goto (-30), 3) := by decide +kernel
theorem dX0_parent_73 : decode cX0_parent 73 = .ok (.aload_n 0, 1) := by decide +kernel
theorem dX0_parent_74 : decode cX0_parent 74 = .ok (.iload_n 2, 1) := by decide +kernel
theorem dX0_parent_75 : decode cX0_parent 75 = .ok (.invokevirtual 75, 3) := by decide +kernel
theorem dX0_parent_78 : decode cX0_parent 78 = .ok (.iload_n 2, 1) := by decide +kernel
theorem dX0_parent_79 : decode cX0_parent 79 = .ok (.ireturn, 1) := by decide +kernel
abbrev cX0_turn : ByteArray := prog_1_method_4_code
def yX0_turn : MethodName := ⟨RX0, "turn", "(I)I"⟩
theorem dX0_turn_0 : decode cX0_turn 0 = .ok (.iload_n 1, 1) := by decide +kernel
theorem dX0_turn_1 : decode cX0_turn 1 = .ok (.invokestatic 50, 3) := by decide +kernel
theorem dX0_turn_4 : decode cX0_turn 4 = .ok (.ifCond .ne 5, 3) := by decide +kernel
theorem dX0_turn_7 : decode cX0_turn 7 = .ok (.iconst (-1), 1) := by decide +kernel
theorem dX0_turn_8 : decode cX0_turn 8 = .ok (.ireturn, 1) := by decide +kernel
theorem dX0_turn_9 : decode cX0_turn 9 = .ok (.aload_n 0, 1) := by decide +kernel
theorem dX0_turn_10 : decode cX0_turn 10 = .ok (.iload_n 1, 1) := by decide +kernel
theorem dX0_turn_11 : decode cX0_turn 11 = .ok (.invokevirtual 54, 3) := by decide +kernel
theorem dX0_turn_14 : decode cX0_turn 14 = .ok (.istore_n 2, 1) := by decide +kernel
theorem dX0_turn_15 : decode cX0_turn 15 = .ok (.aload_n 0, 1) := by decide +kernel
theorem dX0_turn_16 : decode cX0_turn 16 = .ok (.iload_n 1, 1) := by decide +kernel
theorem dX0_turn_17 : decode cX0_turn 17 = .ok (.invokevirtual 58, 3) := by decide +kernel
theorem dX0_turn_20 : decode cX0_turn 20 = .ok (.pop, 1) := by decide +kernel
theorem dX0_turn_21 : decode cX0_turn 21 = .ok (.aload_n 0, 1) := by decide +kernel
theorem dX0_turn_22 : decode cX0_turn 22 = .ok (.getfield 37, 3) := by decide +kernel
theorem dX0_turn_25 : decode cX0_turn 25 = .ok (.iload_n 1, 1) := by decide +kernel
theorem dX0_turn_26 : decode cX0_turn 26 = .ok (.aload_n 0, 1) := by decide +kernel
theorem dX0_turn_27 : decode cX0_turn 27 = .ok (.getfield 37, 3) := by decide +kernel
theorem dX0_turn_30 : decode cX0_turn 30 = .ok (.iload_n 1, 1) := by decide +kernel
theorem dX0_turn_31 : decode cX0_turn 31 = .ok (.baload, 1) := by decide +kernel
theorem dX0_turn_32 : decode cX0_turn 32 = .ok (.ifCond .ne 7, 3) := by decide +kernel
theorem dX0_turn_35 : decode cX0_turn 35 = .ok (.iconst 1, 1) := by decide +kernel
theorem dX0_turn_36 : decode cX0_turn 36 = .ok (.goto 4, 3) := by decide +kernel
theorem dX0_turn_39 : decode cX0_turn 39 = .ok (.iconst 0, 1) := by decide +kernel
theorem dX0_turn_40 : decode cX0_turn 40 = .ok (.bastore, 1) := by decide +kernel
theorem dX0_turn_41 : decode cX0_turn 41 = .ok (.iload_n 2, 1) := by decide +kernel
theorem dX0_turn_42 : decode cX0_turn 42 = .ok (.ireturn, 1) := by decide +kernel
abbrev cX0_set : ByteArray := prog_1_method_5_code
def yX0_set : MethodName := ⟨RX0, "set", "(II)I"⟩
theorem dX0_set_0 : decode cX0_set 0 = .ok (.iload_n 1, 1) := by decide +kernel
theorem dX0_set_1 : decode cX0_set 1 = .ok (.invokestatic 50, 3) := by decide +kernel
theorem dX0_set_4 : decode cX0_set 4 = .ok (.ifCond .ne 5, 3) := by decide +kernel
theorem dX0_set_7 : decode cX0_set 7 = .ok (.iconst 0, 1) := by decide +kernel
theorem dX0_set_8 : decode cX0_set 8 = .ok (.ireturn, 1) := by decide +kernel
theorem dX0_set_9 : decode cX0_set 9 = .ok (.aload_n 0, 1) := by decide +kernel
theorem dX0_set_10 : decode cX0_set 10 = .ok (.iload_n 1, 1) := by decide +kernel
theorem dX0_set_11 : decode cX0_set 11 = .ok (.invokevirtual 58, 3) := by decide +kernel
theorem dX0_set_14 : decode cX0_set 14 = .ok (.pop, 1) := by decide +kernel
theorem dX0_set_15 : decode cX0_set 15 = .ok (.aload_n 0, 1) := by decide +kernel
theorem dX0_set_16 : decode cX0_set 16 = .ok (.getfield 19, 3) := by decide +kernel
theorem dX0_set_19 : decode cX0_set 19 = .ok (.iload_n 1, 1) := by decide +kernel
theorem dX0_set_20 : decode cX0_set 20 = .ok (.iaload, 1) := by decide +kernel
theorem dX0_set_21 : decode cX0_set 21 = .ok (.istore_n 3, 1) := by decide +kernel
theorem dX0_set_22 : decode cX0_set 22 = .ok (.aload_n 0, 1) := by decide +kernel
theorem dX0_set_23 : decode cX0_set 23 = .ok (.getfield 19, 3) := by decide +kernel
theorem dX0_set_26 : decode cX0_set 26 = .ok (.iload_n 1, 1) := by decide +kernel
theorem dX0_set_27 : decode cX0_set 27 = .ok (.iload_n 2, 1) := by decide +kernel
theorem dX0_set_28 : decode cX0_set 28 = .ok (.iastore, 1) := by decide +kernel
theorem dX0_set_29 : decode cX0_set 29 = .ok (.aload_n 0, 1) := by decide +kernel
theorem dX0_set_30 : decode cX0_set 30 = .ok (.iload_n 1, 1) := by decide +kernel
theorem dX0_set_31 : decode cX0_set 31 = .ok (.invokevirtual 61, 3) := by decide +kernel
theorem dX0_set_34 : decode cX0_set 34 = .ok (.iload_n 3, 1) := by decide +kernel
theorem dX0_set_35 : decode cX0_set 35 = .ok (.ireturn, 1) := by decide +kernel
abbrev cX0_paint : ByteArray := prog_1_method_6_code
def yX0_paint : MethodName := ⟨RX0, "paint", "(II)I"⟩
theorem dX0_paint_0 : decode cX0_paint 0 = .ok (.iload_n 1, 1) := by decide +kernel
theorem dX0_paint_1 : decode cX0_paint 1 = .ok (.invokestatic 50, 3) := by decide +kernel
theorem dX0_paint_4 : decode cX0_paint 4 = .ok (.ifCond .ne 5, 3) := by decide +kernel
theorem dX0_paint_7 : decode cX0_paint 7 = .ok (.iconst (-1), 1) := by decide +kernel
theorem dX0_paint_8 : decode cX0_paint 8 = .ok (.ireturn, 1) := by decide +kernel
theorem dX0_paint_9 : decode cX0_paint 9 = .ok (.aload_n 0, 1) := by decide +kernel
theorem dX0_paint_10 : decode cX0_paint 10 = .ok (.iload_n 1, 1) := by decide +kernel
theorem dX0_paint_11 : decode cX0_paint 11 = .ok (.invokevirtual 58, 3) := by decide +kernel
theorem dX0_paint_14 : decode cX0_paint 14 = .ok (.pop, 1) := by decide +kernel
theorem dX0_paint_15 : decode cX0_paint 15 = .ok (.aload_n 0, 1) := by decide +kernel
theorem dX0_paint_16 : decode cX0_paint 16 = .ok (.iload_n 1, 1) := by decide +kernel
theorem dX0_paint_17 : decode cX0_paint 17 = .ok (.iload_n 2, 1) := by decide +kernel
theorem dX0_paint_18 : decode cX0_paint 18 = .ok (.invokevirtual 68, 3) := by decide +kernel
theorem dX0_paint_21 : decode cX0_paint 21 = .ok (.aload_n 0, 1) := by decide +kernel
theorem dX0_paint_22 : decode cX0_paint 22 = .ok (.getfield 22, 3) := by decide +kernel
theorem dX0_paint_25 : decode cX0_paint 25 = .ok (.iload_n 1, 1) := by decide +kernel
theorem dX0_paint_26 : decode cX0_paint 26 = .ok (.iaload, 1) := by decide +kernel
theorem dX0_paint_27 : decode cX0_paint 27 = .ok (.ireturn, 1) := by decide +kernel
abbrev cX0_depth : ByteArray := prog_1_method_9_code
def yX0_depth : MethodName := ⟨RX0, "depth", "(I)I"⟩
theorem dX0_depth_0 : decode cX0_depth 0 = .ok (.iload_n 1, 1) := by decide +kernel
theorem dX0_depth_1 : decode cX0_depth 1 = .ok (.invokestatic 50, 3) := by decide +kernel
theorem dX0_depth_4 : decode cX0_depth 4 = .ok (.ifCond .ne 5, 3) := by decide +kernel
theorem dX0_depth_7 : decode cX0_depth 7 = .ok (.iconst (-1), 1) := by decide +kernel
theorem dX0_depth_8 : decode cX0_depth 8 = .ok (.ireturn, 1) := by decide +kernel
theorem dX0_depth_9 : decode cX0_depth 9 = .ok (.aload_n 0, 1) := by decide +kernel
theorem dX0_depth_10 : decode cX0_depth 10 = .ok (.iload_n 1, 1) := by decide +kernel
theorem dX0_depth_11 : decode cX0_depth 11 = .ok (.invokevirtual 58, 3) := by decide +kernel
theorem dX0_depth_14 : decode cX0_depth 14 = .ok (.pop, 1) := by decide +kernel
theorem dX0_depth_15 : decode cX0_depth 15 = .ok (.aload_n 0, 1) := by decide +kernel
theorem dX0_depth_16 : decode cX0_depth 16 = .ok (.getfield 22, 3) := by decide +kernel
theorem dX0_depth_19 : decode cX0_depth 19 = .ok (.iload_n 1, 1) := by decide +kernel
theorem dX0_depth_20 : decode cX0_depth 20 = .ok (.iaload, 1) := by decide +kernel
theorem dX0_depth_21 : decode cX0_depth 21 = .ok (.iconst 1, 1) := by decide +kernel
theorem dX0_depth_22 : decode cX0_depth 22 = .ok (.isub, 1) := by decide +kernel
theorem dX0_depth_23 : decode cX0_depth 23 = .ok (.ireturn, 1) := by decide +kernel
abbrev cX0_sumUp : ByteArray := prog_1_method_10_code
def yX0_sumUp : MethodName := ⟨RX0, "sumUp", "(I)I"⟩
theorem dX0_sumUp_0 : decode cX0_sumUp 0 = .ok (.iload_n 1, 1) := by decide +kernel
theorem dX0_sumUp_1 : decode cX0_sumUp 1 = .ok (.invokestatic 50, 3) := by decide +kernel
theorem dX0_sumUp_4 : decode cX0_sumUp 4 = .ok (.ifCond .ne 5, 3) := by decide +kernel
theorem dX0_sumUp_7 : decode cX0_sumUp 7 = .ok (.iconst 0, 1) := by decide +kernel
theorem dX0_sumUp_8 : decode cX0_sumUp 8 = .ok (.ireturn, 1) := by decide +kernel
theorem dX0_sumUp_9 : decode cX0_sumUp 9 = .ok (.aload_n 0, 1) := by decide +kernel
theorem dX0_sumUp_10 : decode cX0_sumUp 10 = .ok (.iload_n 1, 1) := by decide +kernel
theorem dX0_sumUp_11 : decode cX0_sumUp 11 = .ok (.invokevirtual 58, 3) := by decide +kernel
theorem dX0_sumUp_14 : decode cX0_sumUp 14 = .ok (.pop, 1) := by decide +kernel
theorem dX0_sumUp_15 : decode cX0_sumUp 15 = .ok (.aload_n 0, 1) := by decide +kernel
theorem dX0_sumUp_16 : decode cX0_sumUp 16 = .ok (.getfield 25, 3) := by decide +kernel
theorem dX0_sumUp_19 : decode cX0_sumUp 19 = .ok (.iload_n 1, 1) := by decide +kernel
theorem dX0_sumUp_20 : decode cX0_sumUp 20 = .ok (.iaload, 1) := by decide +kernel
theorem dX0_sumUp_21 : decode cX0_sumUp 21 = .ok (.ireturn, 1) := by decide +kernel
abbrev cX0_leastUp : ByteArray := prog_1_method_11_code
def yX0_leastUp : MethodName := ⟨RX0, "leastUp", "(I)I"⟩
theorem dX0_leastUp_0 : decode cX0_leastUp 0 = .ok (.iload_n 1, 1) := by decide +kernel
theorem dX0_leastUp_1 : decode cX0_leastUp 1 = .ok (.invokestatic 50, 3) := by decide +kernel
theorem dX0_leastUp_4 : decode cX0_leastUp 4 = .ok (.ifCond .ne 5, 3) := by decide +kernel
theorem dX0_leastUp_7 : decode cX0_leastUp 7 = .ok (.iconst 0, 1) := by decide +kernel
theorem dX0_leastUp_8 : decode cX0_leastUp 8 = .ok (.ireturn, 1) := by decide +kernel
theorem dX0_leastUp_9 : decode cX0_leastUp 9 = .ok (.aload_n 0, 1) := by decide +kernel
theorem dX0_leastUp_10 : decode cX0_leastUp 10 = .ok (.iload_n 1, 1) := by decide +kernel
theorem dX0_leastUp_11 : decode cX0_leastUp 11 = .ok (.invokevirtual 58, 3) := by decide +kernel
theorem dX0_leastUp_14 : decode cX0_leastUp 14 = .ok (.pop, 1) := by decide +kernel
theorem dX0_leastUp_15 : decode cX0_leastUp 15 = .ok (.aload_n 0, 1) := by decide +kernel
theorem dX0_leastUp_16 : decode cX0_leastUp 16 = .ok (.getfield 28, 3) := by decide +kernel
theorem dX0_leastUp_19 : decode cX0_leastUp 19 = .ok (.iload_n 1, 1) := by decide +kernel
theorem dX0_leastUp_20 : decode cX0_leastUp 20 = .ok (.iaload, 1) := by decide +kernel
theorem dX0_leastUp_21 : decode cX0_leastUp 21 = .ok (.ireturn, 1) := by decide +kernel
abbrev cX0_meet : ByteArray := prog_1_method_12_code
def yX0_meet : MethodName := ⟨RX0, "meet", "(II)I"⟩
theorem dX0_meet_0 : decode cX0_meet 0 = .ok (.iload_n 1, 1) := by decide +kernel
theorem dX0_meet_1 : decode cX0_meet 1 = .ok (.invokestatic 50, 3) := by decide +kernel
theorem dX0_meet_4 : decode cX0_meet 4 = .ok (.ifCond .eq 10, 3) := by decide +kernel
theorem dX0_meet_7 : decode cX0_meet 7 = .ok (.iload_n 2, 1) := by decide +kernel
theorem dX0_meet_8 : decode cX0_meet 8 = .ok (.invokestatic 50, 3) := by decide +kernel
theorem dX0_meet_11 : decode cX0_meet 11 = .ok (.ifCond .ne 5, 3) := by decide +kernel
theorem dX0_meet_14 : decode cX0_meet 14 = .ok (.iconst (-1), 1) := by decide +kernel
theorem dX0_meet_15 : decode cX0_meet 15 = .ok (.ireturn, 1) := by decide +kernel
theorem dX0_meet_16 : decode cX0_meet 16 = .ok (.aload_n 0, 1) := by decide +kernel
theorem dX0_meet_17 : decode cX0_meet 17 = .ok (.iload_n 1, 1) := by decide +kernel
theorem dX0_meet_18 : decode cX0_meet 18 = .ok (.invokevirtual 54, 3) := by decide +kernel
theorem dX0_meet_21 : decode cX0_meet 21 = .ok (.istore_n 3, 1) := by decide +kernel
theorem dX0_meet_22 : decode cX0_meet 22 = .ok (.aload_n 0, 1) := by decide +kernel
theorem dX0_meet_23 : decode cX0_meet 23 = .ok (.iload_n 2, 1) := by decide +kernel
theorem dX0_meet_24 : decode cX0_meet 24 = .ok (.invokevirtual 54, 3) := by decide +kernel
theorem dX0_meet_27 : decode cX0_meet 27 = .ok (.istore 4, 2) := by decide +kernel
theorem dX0_meet_29 : decode cX0_meet 29 = .ok (.iload_n 3, 1) := by decide +kernel
theorem dX0_meet_30 : decode cX0_meet 30 = .ok (.iload 4, 2) := by decide +kernel
theorem dX0_meet_32 : decode cX0_meet 32 = .ok (.if_icmp .eq 5, 3) := by decide +kernel
theorem dX0_meet_35 : decode cX0_meet 35 = .ok (.iconst (-1), 1) := by decide +kernel
theorem dX0_meet_36 : decode cX0_meet 36 = .ok (.ireturn, 1) := by decide +kernel
theorem dX0_meet_37 : decode cX0_meet 37 = .ok (.aload_n 0, 1) := by decide +kernel
theorem dX0_meet_38 : decode cX0_meet 38 = .ok (.iload_n 1, 1) := by decide +kernel
theorem dX0_meet_39 : decode cX0_meet 39 = .ok (.invokevirtual 58, 3) := by decide +kernel
theorem dX0_meet_42 : decode cX0_meet 42 = .ok (.pop, 1) := by decide +kernel
theorem dX0_meet_43 : decode cX0_meet 43 = .ok (.aload_n 0, 1) := by decide +kernel
theorem dX0_meet_44 : decode cX0_meet 44 = .ok (.iload_n 2, 1) := by decide +kernel
theorem dX0_meet_45 : decode cX0_meet 45 = .ok (.invokevirtual 58, 3) := by decide +kernel
theorem dX0_meet_48 : decode cX0_meet 48 = .ok (.ireturn, 1) := by decide +kernel
abbrev cX0_sumPart : ByteArray := prog_1_method_13_code
def yX0_sumPart : MethodName := ⟨RX0, "sumPart", "(I)I"⟩
theorem dX0_sumPart_0 : decode cX0_sumPart 0 = .ok (.iload_n 1, 1) := by decide +kernel
theorem dX0_sumPart_1 : decode cX0_sumPart 1 = .ok (.invokestatic 50, 3) := by decide +kernel
theorem dX0_sumPart_4 : decode cX0_sumPart 4 = .ok (.ifCond .ne 5, 3) := by decide +kernel
theorem dX0_sumPart_7 : decode cX0_sumPart 7 = .ok (.iconst 0, 1) := by decide +kernel
theorem dX0_sumPart_8 : decode cX0_sumPart 8 = .ok (.ireturn, 1) := by decide +kernel
theorem dX0_sumPart_9 : decode cX0_sumPart 9 = .ok (.aload_n 0, 1) := by decide +kernel
theorem dX0_sumPart_10 : decode cX0_sumPart 10 = .ok (.iload_n 1, 1) := by decide +kernel
theorem dX0_sumPart_11 : decode cX0_sumPart 11 = .ok (.invokevirtual 58, 3) := by decide +kernel
theorem dX0_sumPart_14 : decode cX0_sumPart 14 = .ok (.pop, 1) := by decide +kernel
theorem dX0_sumPart_15 : decode cX0_sumPart 15 = .ok (.aload_n 0, 1) := by decide +kernel
theorem dX0_sumPart_16 : decode cX0_sumPart 16 = .ok (.getfield 19, 3) := by decide +kernel
theorem dX0_sumPart_19 : decode cX0_sumPart 19 = .ok (.iload_n 1, 1) := by decide +kernel
theorem dX0_sumPart_20 : decode cX0_sumPart 20 = .ok (.iaload, 1) := by decide +kernel
theorem dX0_sumPart_21 : decode cX0_sumPart 21 = .ok (.aload_n 0, 1) := by decide +kernel
theorem dX0_sumPart_22 : decode cX0_sumPart 22 = .ok (.getfield 34, 3) := by decide +kernel
theorem dX0_sumPart_25 : decode cX0_sumPart 25 = .ok (.iload_n 1, 1) := by decide +kernel
theorem dX0_sumPart_26 : decode cX0_sumPart 26 = .ok (.iaload, 1) := by decide +kernel
theorem dX0_sumPart_27 : decode cX0_sumPart 27 = .ok (.iadd, 1) := by decide +kernel
theorem dX0_sumPart_28 : decode cX0_sumPart 28 = .ok (.ireturn, 1) := by decide +kernel
theorem q11 : (Jvm.Cond.initialized "LinkForest") ∈ lw_all := lw_g (lw_at lw_m0 1 rfl) rfl
theorem q14 : (Jvm.Cond.instantiable "LinkForest" (13 : Nat)) ∈ lw_all := lw_g (lw_at lw_m0 4 rfl) rfl
theorem q16 : (Jvm.Cond.instanceMethod ({ cls := "LinkForest", name := "<init>", desc := "()V" } : Jvm.MethodName)) ∈ lw_all := lw_g (lw_at lw_m0 6 rfl) rfl
theorem q17 : (Jvm.Cond.code ({ cls := "LinkForest", name := "<init>", desc := "()V" } : Jvm.MethodName) prog_1_method_1_code (2 : Nat) (Option.none : Option Jvm.ClassFile.FieldType)) ∈ lw_all := lw_g (lw_at lw_m0 7 rfl) rfl
theorem q18 : (Jvm.Cond.methodLink "LinkForest" (1 : Nat) ({ cls := "java/lang/Object", name := "<init>", desc := "()V" } : Jvm.MethodName)) ∈ lw_all := lw_g (lw_at lw_m0 8 rfl) rfl
theorem q21 : (Jvm.Cond.fieldLink "LinkForest" (7 : Nat) "LinkForest" "left" "[I") ∈ lw_all := lw_g (lw_at lw_m0 11 rfl) rfl
theorem q22 : (Jvm.Cond.fieldLink "LinkForest" (13 : Nat) "LinkForest" "right" "[I") ∈ lw_all := lw_g (lw_at lw_m0 12 rfl) rfl
theorem q23 : (Jvm.Cond.fieldLink "LinkForest" (16 : Nat) "LinkForest" "above" "[I") ∈ lw_all := lw_g (lw_at lw_m0 13 rfl) rfl
theorem q24 : (Jvm.Cond.fieldLink "LinkForest" (19 : Nat) "LinkForest" "value" "[I") ∈ lw_all := lw_g (lw_at lw_m0 14 rfl) rfl
theorem q25 : (Jvm.Cond.fieldLink "LinkForest" (22 : Nat) "LinkForest" "size" "[I") ∈ lw_all := lw_g (lw_at lw_m0 15 rfl) rfl
theorem q26 : (Jvm.Cond.fieldLink "LinkForest" (25 : Nat) "LinkForest" "sum" "[I") ∈ lw_all := lw_g (lw_at lw_m0 16 rfl) rfl
theorem q27 : (Jvm.Cond.fieldLink "LinkForest" (28 : Nat) "LinkForest" "least" "[I") ∈ lw_all := lw_g (lw_at lw_m0 17 rfl) rfl
theorem q28 : (Jvm.Cond.fieldLink "LinkForest" (31 : Nat) "LinkForest" "whole" "[I") ∈ lw_all := lw_g (lw_at lw_m0 18 rfl) rfl
theorem q29 : (Jvm.Cond.fieldLink "LinkForest" (34 : Nat) "LinkForest" "hanging" "[I") ∈ lw_all := lw_g (lw_at lw_m0 19 rfl) rfl
theorem q30 : (Jvm.Cond.fieldLink "LinkForest" (37 : Nat) "LinkForest" "turned" "[Z") ∈ lw_all := lw_g (lw_at lw_m0 20 rfl) rfl
theorem q31 : (Jvm.Cond.fieldLink "LinkForest" (41 : Nat) "LinkForest" "painted" "[Z") ∈ lw_all := lw_g (lw_at lw_m0 21 rfl) rfl
theorem q32 : (Jvm.Cond.fieldLink "LinkForest" (44 : Nat) "LinkForest" "colour" "[I") ∈ lw_all := lw_g (lw_at lw_m0 22 rfl) rfl
theorem q33 : (Jvm.Cond.fieldLink "LinkForest" (47 : Nat) "LinkForest" "stack" "[I") ∈ lw_all := lw_g (lw_at lw_m0 23 rfl) rfl
theorem q34 : (Jvm.Cond.laysFinal "LinkForest" "LinkForest" "left" "[I") ∈ lw_all := lw_g (lw_at lw_m0 24 rfl) rfl
theorem q35 : (Jvm.Cond.soleField "LinkForest" "left") ∈ lw_all := lw_g (lw_at lw_m0 25 rfl) rfl
theorem q36 : (Jvm.Cond.laysFinal "LinkForest" "LinkForest" "right" "[I") ∈ lw_all := lw_g (lw_at lw_m0 26 rfl) rfl
theorem q37 : (Jvm.Cond.soleField "LinkForest" "right") ∈ lw_all := lw_g (lw_at lw_m0 27 rfl) rfl
theorem q38 : (Jvm.Cond.laysFinal "LinkForest" "LinkForest" "above" "[I") ∈ lw_all := lw_g (lw_at lw_m0 28 rfl) rfl
theorem q39 : (Jvm.Cond.soleField "LinkForest" "above") ∈ lw_all := lw_g (lw_at lw_m0 29 rfl) rfl
theorem q40 : (Jvm.Cond.laysFinal "LinkForest" "LinkForest" "value" "[I") ∈ lw_all := lw_g (lw_at lw_m0 30 rfl) rfl
theorem q41 : (Jvm.Cond.soleField "LinkForest" "value") ∈ lw_all := lw_g (lw_at lw_m0 31 rfl) rfl
theorem q42 : (Jvm.Cond.laysFinal "LinkForest" "LinkForest" "size" "[I") ∈ lw_all := lw_g (lw_at lw_m0 32 rfl) rfl
theorem q43 : (Jvm.Cond.soleField "LinkForest" "size") ∈ lw_all := lw_g (lw_at lw_m0 33 rfl) rfl
theorem q44 : (Jvm.Cond.laysFinal "LinkForest" "LinkForest" "sum" "[I") ∈ lw_all := lw_g (lw_at lw_m0 34 rfl) rfl
theorem q45 : (Jvm.Cond.soleField "LinkForest" "sum") ∈ lw_all := lw_g (lw_at lw_m0 35 rfl) rfl
theorem q46 : (Jvm.Cond.laysFinal "LinkForest" "LinkForest" "least" "[I") ∈ lw_all := lw_g (lw_at lw_m0 36 rfl) rfl
theorem q47 : (Jvm.Cond.soleField "LinkForest" "least") ∈ lw_all := lw_g (lw_at lw_m0 37 rfl) rfl
theorem q48 : (Jvm.Cond.laysFinal "LinkForest" "LinkForest" "whole" "[I") ∈ lw_all := lw_g (lw_at lw_m0 38 rfl) rfl
theorem q49 : (Jvm.Cond.soleField "LinkForest" "whole") ∈ lw_all := lw_g (lw_at lw_m0 39 rfl) rfl
theorem q50 : (Jvm.Cond.laysFinal "LinkForest" "LinkForest" "hanging" "[I") ∈ lw_all := lw_g (lw_at lw_m0 40 rfl) rfl
theorem q51 : (Jvm.Cond.soleField "LinkForest" "hanging") ∈ lw_all := lw_g (lw_at lw_m0 41 rfl) rfl
theorem q52 : (Jvm.Cond.laysFinal "LinkForest" "LinkForest" "turned" "[Z") ∈ lw_all := lw_g (lw_at lw_m0 42 rfl) rfl
theorem q53 : (Jvm.Cond.soleField "LinkForest" "turned") ∈ lw_all := lw_g (lw_at lw_m0 43 rfl) rfl
theorem q54 : (Jvm.Cond.laysFinal "LinkForest" "LinkForest" "painted" "[Z") ∈ lw_all := lw_g (lw_at lw_m0 44 rfl) rfl
theorem q55 : (Jvm.Cond.soleField "LinkForest" "painted") ∈ lw_all := lw_g (lw_at lw_m0 45 rfl) rfl
theorem q56 : (Jvm.Cond.laysFinal "LinkForest" "LinkForest" "colour" "[I") ∈ lw_all := lw_g (lw_at lw_m0 46 rfl) rfl
theorem q57 : (Jvm.Cond.soleField "LinkForest" "colour") ∈ lw_all := lw_g (lw_at lw_m0 47 rfl) rfl
theorem q58 : (Jvm.Cond.laysFinal "LinkForest" "LinkForest" "stack" "[I") ∈ lw_all := lw_g (lw_at lw_m0 48 rfl) rfl
theorem q59 : (Jvm.Cond.soleField "LinkForest" "stack") ∈ lw_all := lw_g (lw_at lw_m0 49 rfl) rfl
theorem q60 : (Jvm.Cond.superclass "LinkForest" "java/lang/Object") ∈ lw_all := lw_g (lw_at lw_m0 50 rfl) rfl
theorem q64 : (Jvm.Cond.instanceMethod ({ cls := "LinkForest", name := "link", desc := "(II)I" } : Jvm.MethodName)) ∈ lw_all := lw_g (lw_at lw_m0 54 rfl) rfl
theorem q65 : (Jvm.Cond.selects "LinkForest" ({ cls := "LinkForest", name := "link", desc := "(II)I" } : Jvm.MethodName) ({ cls := "LinkForest", name := "link", desc := "(II)I" } : Jvm.MethodName)) ∈ lw_all := lw_g (lw_at lw_m0 55 rfl) rfl
theorem q66 : (Jvm.Cond.code ({ cls := "LinkForest", name := "link", desc := "(II)I" } : Jvm.MethodName) prog_1_method_2_code (4 : Nat) (Option.some Jvm.ClassFile.FieldType.int)) ∈ lw_all := lw_g (lw_at lw_m0 56 rfl) rfl
theorem q67 : (Jvm.Cond.methodLink "LinkForest" (50 : Nat) ({ cls := "LinkForest", name := "isNode", desc := "(I)Z" } : Jvm.MethodName)) ∈ lw_all := lw_g (lw_at lw_m0 57 rfl) rfl
theorem q68 : (Jvm.Cond.static ({ cls := "LinkForest", name := "isNode", desc := "(I)Z" } : Jvm.MethodName)) ∈ lw_all := lw_g (lw_at lw_m0 58 rfl) rfl
theorem q69 : (Jvm.Cond.code ({ cls := "LinkForest", name := "isNode", desc := "(I)Z" } : Jvm.MethodName) prog_1_method_14_code (1 : Nat) (Option.some Jvm.ClassFile.FieldType.boolean)) ∈ lw_all := lw_g (lw_at lw_m0 59 rfl) rfl
theorem q70 : (Jvm.Cond.methodLink "LinkForest" (54 : Nat) ({ cls := "LinkForest", name := "root", desc := "(I)I" } : Jvm.MethodName)) ∈ lw_all := lw_g (lw_at lw_m0 60 rfl) rfl
theorem q71 : (Jvm.Cond.instanceMethod ({ cls := "LinkForest", name := "root", desc := "(I)I" } : Jvm.MethodName)) ∈ lw_all := lw_g (lw_at lw_m0 61 rfl) rfl
theorem q72 : (Jvm.Cond.selects "LinkForest" ({ cls := "LinkForest", name := "root", desc := "(I)I" } : Jvm.MethodName) ({ cls := "LinkForest", name := "root", desc := "(I)I" } : Jvm.MethodName)) ∈ lw_all := lw_g (lw_at lw_m0 62 rfl) rfl
theorem q73 : (Jvm.Cond.code ({ cls := "LinkForest", name := "root", desc := "(I)I" } : Jvm.MethodName) prog_1_method_7_code (4 : Nat) (Option.some Jvm.ClassFile.FieldType.int)) ∈ lw_all := lw_g (lw_at lw_m0 63 rfl) rfl
theorem q74 : (Jvm.Cond.methodLink "LinkForest" (58 : Nat) ({ cls := "LinkForest", name := "expose", desc := "(I)I" } : Jvm.MethodName)) ∈ lw_all := lw_g (lw_at lw_m0 64 rfl) rfl
theorem q75 : (Jvm.Cond.privateMethod ({ cls := "LinkForest", name := "expose", desc := "(I)I" } : Jvm.MethodName)) ∈ lw_tbl := lw_at lw_m0 65 rfl
theorem q76 : (Jvm.Cond.instanceMethod ({ cls := "LinkForest", name := "expose", desc := "(I)I" } : Jvm.MethodName)) ∈ lw_all := lw_g (lw_at lw_m0 66 rfl) rfl
theorem q77 : (Jvm.Cond.code ({ cls := "LinkForest", name := "expose", desc := "(I)I" } : Jvm.MethodName) prog_1_method_23_code (5 : Nat) (Option.some Jvm.ClassFile.FieldType.int)) ∈ lw_all := lw_g (lw_at lw_m0 67 rfl) rfl
theorem q78 : (Jvm.Cond.methodLink "LinkForest" (75 : Nat) ({ cls := "LinkForest", name := "lift", desc := "(I)V" } : Jvm.MethodName)) ∈ lw_all := lw_g (lw_at lw_m0 68 rfl) rfl
theorem q79 : (Jvm.Cond.privateMethod ({ cls := "LinkForest", name := "lift", desc := "(I)V" } : Jvm.MethodName)) ∈ lw_tbl := lw_at lw_m0 69 rfl
theorem q80 : (Jvm.Cond.instanceMethod ({ cls := "LinkForest", name := "lift", desc := "(I)V" } : Jvm.MethodName)) ∈ lw_all := lw_g (lw_at lw_m0 70 rfl) rfl
theorem q81 : (Jvm.Cond.code ({ cls := "LinkForest", name := "lift", desc := "(I)V" } : Jvm.MethodName) prog_1_method_22_code (7 : Nat) (Option.none : Option Jvm.ClassFile.FieldType)) ∈ lw_all := lw_g (lw_at lw_m0 71 rfl) rfl
theorem q82 : (Jvm.Cond.methodLink "LinkForest" (84 : Nat) ({ cls := "LinkForest", name := "isTop", desc := "(I)Z" } : Jvm.MethodName)) ∈ lw_all := lw_g (lw_at lw_m0 72 rfl) rfl
theorem q83 : (Jvm.Cond.privateMethod ({ cls := "LinkForest", name := "isTop", desc := "(I)Z" } : Jvm.MethodName)) ∈ lw_tbl := lw_at lw_m0 73 rfl
theorem q84 : (Jvm.Cond.instanceMethod ({ cls := "LinkForest", name := "isTop", desc := "(I)Z" } : Jvm.MethodName)) ∈ lw_all := lw_g (lw_at lw_m0 74 rfl) rfl
theorem q85 : (Jvm.Cond.code ({ cls := "LinkForest", name := "isTop", desc := "(I)Z" } : Jvm.MethodName) prog_1_method_15_code (3 : Nat) (Option.some Jvm.ClassFile.FieldType.boolean)) ∈ lw_all := lw_g (lw_at lw_m0 75 rfl) rfl
theorem q86 : (Jvm.Cond.methodLink "LinkForest" (72 : Nat) ({ cls := "LinkForest", name := "handDown", desc := "(I)V" } : Jvm.MethodName)) ∈ lw_all := lw_g (lw_at lw_m0 76 rfl) rfl
theorem q87 : (Jvm.Cond.privateMethod ({ cls := "LinkForest", name := "handDown", desc := "(I)V" } : Jvm.MethodName)) ∈ lw_tbl := lw_at lw_m0 77 rfl
theorem q88 : (Jvm.Cond.instanceMethod ({ cls := "LinkForest", name := "handDown", desc := "(I)V" } : Jvm.MethodName)) ∈ lw_all := lw_g (lw_at lw_m0 78 rfl) rfl
theorem q89 : (Jvm.Cond.code ({ cls := "LinkForest", name := "handDown", desc := "(I)V" } : Jvm.MethodName) prog_1_method_19_code (3 : Nat) (Option.none : Option Jvm.ClassFile.FieldType)) ∈ lw_all := lw_g (lw_at lw_m0 79 rfl) rfl
theorem q90 : (Jvm.Cond.methodLink "LinkForest" (81 : Nat) ({ cls := "LinkForest", name := "turnPiece", desc := "(I)V" } : Jvm.MethodName)) ∈ lw_all := lw_g (lw_at lw_m0 80 rfl) rfl
theorem q91 : (Jvm.Cond.privateMethod ({ cls := "LinkForest", name := "turnPiece", desc := "(I)V" } : Jvm.MethodName)) ∈ lw_tbl := lw_at lw_m0 81 rfl
theorem q92 : (Jvm.Cond.instanceMethod ({ cls := "LinkForest", name := "turnPiece", desc := "(I)V" } : Jvm.MethodName)) ∈ lw_all := lw_g (lw_at lw_m0 82 rfl) rfl
theorem q93 : (Jvm.Cond.code ({ cls := "LinkForest", name := "turnPiece", desc := "(I)V" } : Jvm.MethodName) prog_1_method_20_code (2 : Nat) (Option.none : Option Jvm.ClassFile.FieldType)) ∈ lw_all := lw_g (lw_at lw_m0 83 rfl) rfl
theorem q94 : (Jvm.Cond.methodLink "LinkForest" (68 : Nat) ({ cls := "LinkForest", name := "paintPiece", desc := "(II)V" } : Jvm.MethodName)) ∈ lw_all := lw_g (lw_at lw_m0 84 rfl) rfl
theorem q95 : (Jvm.Cond.privateMethod ({ cls := "LinkForest", name := "paintPiece", desc := "(II)V" } : Jvm.MethodName)) ∈ lw_tbl := lw_at lw_m0 85 rfl
theorem q96 : (Jvm.Cond.instanceMethod ({ cls := "LinkForest", name := "paintPiece", desc := "(II)V" } : Jvm.MethodName)) ∈ lw_all := lw_g (lw_at lw_m0 86 rfl) rfl
theorem q97 : (Jvm.Cond.code ({ cls := "LinkForest", name := "paintPiece", desc := "(II)V" } : Jvm.MethodName) prog_1_method_18_code (3 : Nat) (Option.none : Option Jvm.ClassFile.FieldType)) ∈ lw_all := lw_g (lw_at lw_m0 87 rfl) rfl
theorem q98 : (Jvm.Cond.methodLink "LinkForest" (87 : Nat) ({ cls := "LinkForest", name := "rotate", desc := "(I)V" } : Jvm.MethodName)) ∈ lw_all := lw_g (lw_at lw_m0 88 rfl) rfl
theorem q99 : (Jvm.Cond.privateMethod ({ cls := "LinkForest", name := "rotate", desc := "(I)V" } : Jvm.MethodName)) ∈ lw_tbl := lw_at lw_m0 89 rfl
theorem q100 : (Jvm.Cond.instanceMethod ({ cls := "LinkForest", name := "rotate", desc := "(I)V" } : Jvm.MethodName)) ∈ lw_all := lw_g (lw_at lw_m0 90 rfl) rfl
theorem q101 : (Jvm.Cond.code ({ cls := "LinkForest", name := "rotate", desc := "(I)V" } : Jvm.MethodName) prog_1_method_21_code (7 : Nat) (Option.none : Option Jvm.ClassFile.FieldType)) ∈ lw_all := lw_g (lw_at lw_m0 91 rfl) rfl
theorem q102 : (Jvm.Cond.methodLink "LinkForest" (61 : Nat) ({ cls := "LinkForest", name := "gather", desc := "(I)V" } : Jvm.MethodName)) ∈ lw_all := lw_g (lw_at lw_m0 92 rfl) rfl
theorem q103 : (Jvm.Cond.privateMethod ({ cls := "LinkForest", name := "gather", desc := "(I)V" } : Jvm.MethodName)) ∈ lw_tbl := lw_at lw_m0 93 rfl
theorem q104 : (Jvm.Cond.instanceMethod ({ cls := "LinkForest", name := "gather", desc := "(I)V" } : Jvm.MethodName)) ∈ lw_all := lw_g (lw_at lw_m0 94 rfl) rfl
theorem q105 : (Jvm.Cond.code ({ cls := "LinkForest", name := "gather", desc := "(I)V" } : Jvm.MethodName) prog_1_method_16_code (2 : Nat) (Option.none : Option Jvm.ClassFile.FieldType)) ∈ lw_all := lw_g (lw_at lw_m0 95 rfl) rfl
theorem q106 : (Jvm.Cond.methodLink "LinkForest" (78 : Nat) ({ cls := "LinkForest", name := "gatherChild", desc := "(II)V" } : Jvm.MethodName)) ∈ lw_all := lw_g (lw_at lw_m0 96 rfl) rfl
theorem q107 : (Jvm.Cond.privateMethod ({ cls := "LinkForest", name := "gatherChild", desc := "(II)V" } : Jvm.MethodName)) ∈ lw_tbl := lw_at lw_m0 97 rfl
theorem q108 : (Jvm.Cond.instanceMethod ({ cls := "LinkForest", name := "gatherChild", desc := "(II)V" } : Jvm.MethodName)) ∈ lw_all := lw_g (lw_at lw_m0 98 rfl) rfl
theorem q109 : (Jvm.Cond.code ({ cls := "LinkForest", name := "gatherChild", desc := "(II)V" } : Jvm.MethodName) prog_1_method_17_code (3 : Nat) (Option.none : Option Jvm.ClassFile.FieldType)) ∈ lw_all := lw_g (lw_at lw_m0 99 rfl) rfl
theorem q111 : (Jvm.Cond.instanceMethod ({ cls := "LinkForest", name := "cut", desc := "(I)I" } : Jvm.MethodName)) ∈ lw_all := lw_g (lw_at lw_m0 101 rfl) rfl
theorem q112 : (Jvm.Cond.selects "LinkForest" ({ cls := "LinkForest", name := "cut", desc := "(I)I" } : Jvm.MethodName) ({ cls := "LinkForest", name := "cut", desc := "(I)I" } : Jvm.MethodName)) ∈ lw_all := lw_g (lw_at lw_m0 102 rfl) rfl
theorem q113 : (Jvm.Cond.code ({ cls := "LinkForest", name := "cut", desc := "(I)I" } : Jvm.MethodName) prog_1_method_3_code (3 : Nat) (Option.some Jvm.ClassFile.FieldType.int)) ∈ lw_all := lw_g (lw_at lw_m0 103 rfl) rfl
theorem q114 : (Jvm.Cond.methodLink "LinkForest" (65 : Nat) ({ cls := "LinkForest", name := "parent", desc := "(I)I" } : Jvm.MethodName)) ∈ lw_all := lw_g (lw_at lw_m0 104 rfl) rfl
theorem q115 : (Jvm.Cond.instanceMethod ({ cls := "LinkForest", name := "parent", desc := "(I)I" } : Jvm.MethodName)) ∈ lw_all := lw_g (lw_at lw_m0 105 rfl) rfl
theorem q116 : (Jvm.Cond.selects "LinkForest" ({ cls := "LinkForest", name := "parent", desc := "(I)I" } : Jvm.MethodName) ({ cls := "LinkForest", name := "parent", desc := "(I)I" } : Jvm.MethodName)) ∈ lw_all := lw_g (lw_at lw_m0 106 rfl) rfl
theorem q117 : (Jvm.Cond.code ({ cls := "LinkForest", name := "parent", desc := "(I)I" } : Jvm.MethodName) prog_1_method_8_code (4 : Nat) (Option.some Jvm.ClassFile.FieldType.int)) ∈ lw_all := lw_g (lw_at lw_m0 107 rfl) rfl
theorem q119 : (Jvm.Cond.instanceMethod ({ cls := "LinkForest", name := "turn", desc := "(I)I" } : Jvm.MethodName)) ∈ lw_all := lw_g (lw_at lw_m0 109 rfl) rfl
theorem q120 : (Jvm.Cond.selects "LinkForest" ({ cls := "LinkForest", name := "turn", desc := "(I)I" } : Jvm.MethodName) ({ cls := "LinkForest", name := "turn", desc := "(I)I" } : Jvm.MethodName)) ∈ lw_all := lw_g (lw_at lw_m0 110 rfl) rfl
theorem q121 : (Jvm.Cond.code ({ cls := "LinkForest", name := "turn", desc := "(I)I" } : Jvm.MethodName) prog_1_method_4_code (3 : Nat) (Option.some Jvm.ClassFile.FieldType.int)) ∈ lw_all := lw_g (lw_at lw_m0 111 rfl) rfl
theorem q123 : (Jvm.Cond.instanceMethod ({ cls := "LinkForest", name := "set", desc := "(II)I" } : Jvm.MethodName)) ∈ lw_all := lw_g (lw_at lw_m0 113 rfl) rfl
theorem q124 : (Jvm.Cond.selects "LinkForest" ({ cls := "LinkForest", name := "set", desc := "(II)I" } : Jvm.MethodName) ({ cls := "LinkForest", name := "set", desc := "(II)I" } : Jvm.MethodName)) ∈ lw_all := lw_g (lw_at lw_m0 114 rfl) rfl
theorem q125 : (Jvm.Cond.code ({ cls := "LinkForest", name := "set", desc := "(II)I" } : Jvm.MethodName) prog_1_method_5_code (4 : Nat) (Option.some Jvm.ClassFile.FieldType.int)) ∈ lw_all := lw_g (lw_at lw_m0 115 rfl) rfl
theorem q127 : (Jvm.Cond.instanceMethod ({ cls := "LinkForest", name := "paint", desc := "(II)I" } : Jvm.MethodName)) ∈ lw_all := lw_g (lw_at lw_m0 117 rfl) rfl
theorem q128 : (Jvm.Cond.selects "LinkForest" ({ cls := "LinkForest", name := "paint", desc := "(II)I" } : Jvm.MethodName) ({ cls := "LinkForest", name := "paint", desc := "(II)I" } : Jvm.MethodName)) ∈ lw_all := lw_g (lw_at lw_m0 118 rfl) rfl
theorem q129 : (Jvm.Cond.code ({ cls := "LinkForest", name := "paint", desc := "(II)I" } : Jvm.MethodName) prog_1_method_6_code (3 : Nat) (Option.some Jvm.ClassFile.FieldType.int)) ∈ lw_all := lw_g (lw_at lw_m0 119 rfl) rfl
theorem q133 : (Jvm.Cond.instanceMethod ({ cls := "LinkForest", name := "depth", desc := "(I)I" } : Jvm.MethodName)) ∈ lw_all := lw_g (lw_at lw_m0 123 rfl) rfl
theorem q134 : (Jvm.Cond.selects "LinkForest" ({ cls := "LinkForest", name := "depth", desc := "(I)I" } : Jvm.MethodName) ({ cls := "LinkForest", name := "depth", desc := "(I)I" } : Jvm.MethodName)) ∈ lw_all := lw_g (lw_at lw_m0 124 rfl) rfl
theorem q135 : (Jvm.Cond.code ({ cls := "LinkForest", name := "depth", desc := "(I)I" } : Jvm.MethodName) prog_1_method_9_code (2 : Nat) (Option.some Jvm.ClassFile.FieldType.int)) ∈ lw_all := lw_g (lw_at lw_m0 125 rfl) rfl
theorem q137 : (Jvm.Cond.instanceMethod ({ cls := "LinkForest", name := "sumUp", desc := "(I)I" } : Jvm.MethodName)) ∈ lw_all := lw_g (lw_at lw_m0 127 rfl) rfl
theorem q138 : (Jvm.Cond.selects "LinkForest" ({ cls := "LinkForest", name := "sumUp", desc := "(I)I" } : Jvm.MethodName) ({ cls := "LinkForest", name := "sumUp", desc := "(I)I" } : Jvm.MethodName)) ∈ lw_all := lw_g (lw_at lw_m0 128 rfl) rfl
theorem q139 : (Jvm.Cond.code ({ cls := "LinkForest", name := "sumUp", desc := "(I)I" } : Jvm.MethodName) prog_1_method_10_code (2 : Nat) (Option.some Jvm.ClassFile.FieldType.int)) ∈ lw_all := lw_g (lw_at lw_m0 129 rfl) rfl
theorem q141 : (Jvm.Cond.instanceMethod ({ cls := "LinkForest", name := "leastUp", desc := "(I)I" } : Jvm.MethodName)) ∈ lw_all := lw_g (lw_at lw_m0 131 rfl) rfl
theorem q142 : (Jvm.Cond.selects "LinkForest" ({ cls := "LinkForest", name := "leastUp", desc := "(I)I" } : Jvm.MethodName) ({ cls := "LinkForest", name := "leastUp", desc := "(I)I" } : Jvm.MethodName)) ∈ lw_all := lw_g (lw_at lw_m0 132 rfl) rfl
theorem q143 : (Jvm.Cond.code ({ cls := "LinkForest", name := "leastUp", desc := "(I)I" } : Jvm.MethodName) prog_1_method_11_code (2 : Nat) (Option.some Jvm.ClassFile.FieldType.int)) ∈ lw_all := lw_g (lw_at lw_m0 133 rfl) rfl
theorem q145 : (Jvm.Cond.instanceMethod ({ cls := "LinkForest", name := "meet", desc := "(II)I" } : Jvm.MethodName)) ∈ lw_all := lw_g (lw_at lw_m0 135 rfl) rfl
theorem q146 : (Jvm.Cond.selects "LinkForest" ({ cls := "LinkForest", name := "meet", desc := "(II)I" } : Jvm.MethodName) ({ cls := "LinkForest", name := "meet", desc := "(II)I" } : Jvm.MethodName)) ∈ lw_all := lw_g (lw_at lw_m0 136 rfl) rfl
theorem q147 : (Jvm.Cond.code ({ cls := "LinkForest", name := "meet", desc := "(II)I" } : Jvm.MethodName) prog_1_method_12_code (5 : Nat) (Option.some Jvm.ClassFile.FieldType.int)) ∈ lw_all := lw_g (lw_at lw_m0 137 rfl) rfl
theorem q149 : (Jvm.Cond.instanceMethod ({ cls := "LinkForest", name := "sumPart", desc := "(I)I" } : Jvm.MethodName)) ∈ lw_all := lw_g (lw_at lw_m0 139 rfl) rfl
theorem q150 : (Jvm.Cond.selects "LinkForest" ({ cls := "LinkForest", name := "sumPart", desc := "(I)I" } : Jvm.MethodName) ({ cls := "LinkForest", name := "sumPart", desc := "(I)I" } : Jvm.MethodName)) ∈ lw_all := lw_g (lw_at lw_m0 140 rfl) rfl
theorem q151 : (Jvm.Cond.code ({ cls := "LinkForest", name := "sumPart", desc := "(I)I" } : Jvm.MethodName) prog_1_method_13_code (2 : Nat) (Option.some Jvm.ClassFile.FieldType.int)) ∈ lw_all := lw_g (lw_at lw_m0 141 rfl) rfl
theorem in_X0 : ∀ w ∈ wsX00, w ∈ lw_all := lw_in wsX00 [34, 36, 38, 40, 42, 44, 46, 48, 50, 52, 54, 56, 58] (by decide +kernel) (by decide +kernel)
end
section
/-! LinkForestModel -/
set_option maxRecDepth 100000
def RX1 : String := "LinkForestModel"
def TX1 : u_T := fun k => match k with
  | 0 => ("LinkForestModel", "values", "[I", true)
  | _ => ("LinkForestModel", "parents", "[I", true)
def tyX1 : Nat → FieldType := fun k => match k with
  | 0 => .array .int
  | _ => .array .int
abbrev wsX10 : List Cond := u_ws RX1 TX1 2
theorem nmX1 : ∀ a, a < 2 → ∀ b, b < 2 → a ≠ b → (TX1 a).2.1 ≠ (TX1 b).2.1 := by decide +kernel
theorem tyX1_ok : ∀ k, k < 2 → parseFieldDescriptor (TX1 k).2.2.1 = some (tyX1 k) := by decide +kernel
abbrev cX1_init : ByteArray := prog_3_method_1_code
def yX1_init : MethodName := ⟨RX1, "<init>", "()V"⟩
theorem dX1_init_0 : decode cX1_init 0 = .ok (.aload_n 0, 1) := by decide +kernel
theorem dX1_init_1 : decode cX1_init 1 = .ok (.invokespecial 1, 3) := by decide +kernel
theorem dX1_init_4 : decode cX1_init 4 = .ok (.aload_n 0, 1) := by decide +kernel
theorem dX1_init_5 : decode cX1_init 5 = .ok (.bipush 24, 2) := by decide +kernel
theorem dX1_init_7 : decode cX1_init 7 = .ok (.newarray .int, 2) := by decide +kernel
theorem dX1_init_9 : decode cX1_init 9 = .ok (.putfield 7, 3) := by decide +kernel
theorem dX1_init_12 : decode cX1_init 12 = .ok (.aload_n 0, 1) := by decide +kernel
theorem dX1_init_13 : decode cX1_init 13 = .ok (.bipush 24, 2) := by decide +kernel
theorem dX1_init_15 : decode cX1_init 15 = .ok (.newarray .int, 2) := by decide +kernel
theorem dX1_init_17 : decode cX1_init 17 = .ok (.putfield 13, 3) := by decide +kernel
theorem dX1_init_20 : decode cX1_init 20 = .ok (.iconst 0, 1) := by decide +kernel
theorem dX1_init_21 : decode cX1_init 21 = .ok (.istore_n 1, 1) := by decide +kernel
theorem dX1_init_22 : decode cX1_init 22 = .ok (.iload_n 1, 1) := by decide +kernel
theorem dX1_init_23 : decode cX1_init 23 = .ok (.bipush 24, 2) := by decide +kernel
theorem dX1_init_25 : decode cX1_init 25 = .ok (.if_icmp .ge 16, 3) := by decide +kernel
theorem dX1_init_28 : decode cX1_init 28 = .ok (.aload_n 0, 1) := by decide +kernel
theorem dX1_init_29 : decode cX1_init 29 = .ok (.getfield 13, 3) := by decide +kernel
theorem dX1_init_32 : decode cX1_init 32 = .ok (.iload_n 1, 1) := by decide +kernel
theorem dX1_init_33 : decode cX1_init 33 = .ok (.iconst (-1), 1) := by decide +kernel
theorem dX1_init_34 : decode cX1_init 34 = .ok (.iastore, 1) := by decide +kernel
theorem dX1_init_35 : decode cX1_init 35 = .ok (.iinc 1 1, 3) := by decide +kernel
theorem dX1_init_38 : decode cX1_init 38 = .ok (.goto (-16), 3) := by decide +kernel
theorem dX1_init_41 : decode cX1_init 41 = .ok (.return_, 1) := by decide +kernel
abbrev cX1_link : ByteArray := prog_3_method_3_code
def yX1_link : MethodName := ⟨RX1, "link", "(II)I"⟩
theorem dX1_link_0 : decode cX1_link 0 = .ok (.iload_n 1, 1) := by decide +kernel
theorem dX1_link_1 : decode cX1_link 1 = .ok (.invokestatic 16, 3) := by decide +kernel
theorem dX1_link_4 : decode cX1_link 4 = .ok (.ifCond .ne 28, 3) := by decide +kernel
theorem dX1_link_7 : decode cX1_link 7 = .ok (.iload_n 2, 1) := by decide +kernel
theorem dX1_link_8 : decode cX1_link 8 = .ok (.invokestatic 16, 3) := by decide +kernel
theorem dX1_link_11 : decode cX1_link 11 = .ok (.ifCond .ne 21, 3) := by decide +kernel
theorem dX1_link_14 : decode cX1_link 14 = .ok (.aload_n 0, 1) := by decide +kernel
theorem dX1_link_15 : decode cX1_link 15 = .ok (.getfield 13, 3) := by decide +kernel
theorem dX1_link_18 : decode cX1_link 18 = .ok (.iload_n 1, 1) := by decide +kernel
theorem dX1_link_19 : decode cX1_link 19 = .ok (.iaload, 1) := by decide +kernel
theorem dX1_link_20 : decode cX1_link 20 = .ok (.ifCond .ge 12, 3) := by decide +kernel
theorem dX1_link_23 : decode cX1_link 23 = .ok (.aload_n 0, 1) := by decide +kernel
theorem dX1_link_24 : decode cX1_link 24 = .ok (.iload_n 2, 1) := by decide +kernel
theorem dX1_link_25 : decode cX1_link 25 = .ok (.invokevirtual 20, 3) := by decide +kernel
theorem dX1_link_28 : decode cX1_link 28 = .ok (.iload_n 1, 1) := by decide +kernel
theorem dX1_link_29 : decode cX1_link 29 = .ok (.if_icmp .ne 5, 3) := by decide +kernel
theorem dX1_link_32 : decode cX1_link 32 = .ok (.iconst (-1), 1) := by decide +kernel
theorem dX1_link_33 : decode cX1_link 33 = .ok (.ireturn, 1) := by decide +kernel
theorem dX1_link_34 : decode cX1_link 34 = .ok (.aload_n 0, 1) := by decide +kernel
theorem dX1_link_35 : decode cX1_link 35 = .ok (.getfield 13, 3) := by decide +kernel
theorem dX1_link_38 : decode cX1_link 38 = .ok (.iload_n 1, 1) := by decide +kernel
theorem dX1_link_39 : decode cX1_link 39 = .ok (.iload_n 2, 1) := by decide +kernel
theorem dX1_link_40 : decode cX1_link 40 = .ok (.iastore, 1) := by decide +kernel
theorem dX1_link_41 : decode cX1_link 41 = .ok (.iconst 0, 1) := by decide +kernel
theorem dX1_link_42 : decode cX1_link 42 = .ok (.ireturn, 1) := by decide +kernel
abbrev cX1_bad : ByteArray := prog_3_method_2_code
def yX1_bad : MethodName := ⟨RX1, "bad", "(I)Z"⟩
theorem dX1_bad_0 : decode cX1_bad 0 = .ok (.iload_n 0, 1) := by decide +kernel
theorem dX1_bad_1 : decode cX1_bad 1 = .ok (.ifCond .lt 9, 3) := by decide +kernel
theorem dX1_bad_4 : decode cX1_bad 4 = .ok (.iload_n 0, 1) := by decide +kernel
theorem dX1_bad_5 : decode cX1_bad 5 = .ok (.bipush 23, 2) := by decide +kernel
theorem dX1_bad_7 : decode cX1_bad 7 = .ok (.if_icmp .le 7, 3) := by decide +kernel
theorem dX1_bad_10 : decode cX1_bad 10 = .ok (.iconst 1, 1) := by decide +kernel
theorem dX1_bad_11 : decode cX1_bad 11 = .ok (.goto 4, 3) := by decide +kernel
theorem dX1_bad_14 : decode cX1_bad 14 = .ok (.iconst 0, 1) := by decide +kernel
theorem dX1_bad_15 : decode cX1_bad 15 = .ok (.ireturn, 1) := by decide +kernel
abbrev cX1_root : ByteArray := prog_3_method_8_code
def yX1_root : MethodName := ⟨RX1, "root", "(I)I"⟩
theorem dX1_root_0 : decode cX1_root 0 = .ok (.iload_n 1, 1) := by decide +kernel
theorem dX1_root_1 : decode cX1_root 1 = .ok (.invokestatic 16, 3) := by decide +kernel
theorem dX1_root_4 : decode cX1_root 4 = .ok (.ifCond .eq 5, 3) := by decide +kernel
theorem dX1_root_7 : decode cX1_root 7 = .ok (.iconst (-1), 1) := by decide +kernel
theorem dX1_root_8 : decode cX1_root 8 = .ok (.ireturn, 1) := by decide +kernel
theorem dX1_root_9 : decode cX1_root 9 = .ok (.iload_n 1, 1) := by decide +kernel
theorem dX1_root_10 : decode cX1_root 10 = .ok (.istore_n 2, 1) := by decide +kernel
theorem dX1_root_11 : decode cX1_root 11 = .ok (.aload_n 0, 1) := by decide +kernel
theorem dX1_root_12 : decode cX1_root 12 = .ok (.getfield 13, 3) := by decide +kernel
theorem dX1_root_15 : decode cX1_root 15 = .ok (.iload_n 2, 1) := by decide +kernel
theorem dX1_root_16 : decode cX1_root 16 = .ok (.iaload, 1) := by decide +kernel
theorem dX1_root_17 : decode cX1_root 17 = .ok (.ifCond .lt 13, 3) := by decide +kernel
theorem dX1_root_20 : decode cX1_root 20 = .ok (.aload_n 0, 1) := by decide +kernel
theorem dX1_root_21 : decode cX1_root 21 = .ok (.getfield 13, 3) := by decide +kernel
theorem dX1_root_24 : decode cX1_root 24 = .ok (.iload_n 2, 1) := by decide +kernel
theorem dX1_root_25 : decode cX1_root 25 = .ok (.iaload, 1) := by decide +kernel
theorem dX1_root_26 : decode cX1_root 26 = .ok (.istore_n 2, 1) := by decide +kernel
theorem dX1_root_27 : decode cX1_root 27 = .ok (.goto (-16), 3) := by decide +kernel
theorem dX1_root_30 : decode cX1_root 30 = .ok (.iload_n 2, 1) := by decide +kernel
theorem dX1_root_31 : decode cX1_root 31 = .ok (.ireturn, 1) := by decide +kernel
abbrev cX1_cut : ByteArray := prog_3_method_4_code
def yX1_cut : MethodName := ⟨RX1, "cut", "(I)I"⟩
theorem dX1_cut_0 : decode cX1_cut 0 = .ok (.iload_n 1, 1) := by decide +kernel
theorem dX1_cut_1 : decode cX1_cut 1 = .ok (.invokestatic 16, 3) := by decide +kernel
theorem dX1_cut_4 : decode cX1_cut 4 = .ok (.ifCond .eq 5, 3) := by decide +kernel
theorem dX1_cut_7 : decode cX1_cut 7 = .ok (.iconst (-1), 1) := by decide +kernel
theorem dX1_cut_8 : decode cX1_cut 8 = .ok (.ireturn, 1) := by decide +kernel
theorem dX1_cut_9 : decode cX1_cut 9 = .ok (.aload_n 0, 1) := by decide +kernel
theorem dX1_cut_10 : decode cX1_cut 10 = .ok (.getfield 13, 3) := by decide +kernel
theorem dX1_cut_13 : decode cX1_cut 13 = .ok (.iload_n 1, 1) := by decide +kernel
theorem dX1_cut_14 : decode cX1_cut 14 = .ok (.iaload, 1) := by decide +kernel
theorem dX1_cut_15 : decode cX1_cut 15 = .ok (.istore_n 2, 1) := by decide +kernel
theorem dX1_cut_16 : decode cX1_cut 16 = .ok (.aload_n 0, 1) := by decide +kernel
theorem dX1_cut_17 : decode cX1_cut 17 = .ok (.getfield 13, 3) := by decide +kernel
theorem dX1_cut_20 : decode cX1_cut 20 = .ok (.iload_n 1, 1) := by decide +kernel
theorem dX1_cut_21 : decode cX1_cut 21 = .ok (.iconst (-1), 1) := by decide +kernel
theorem dX1_cut_22 : decode cX1_cut 22 = .ok (.iastore, 1) := by decide +kernel
theorem dX1_cut_23 : decode cX1_cut 23 = .ok (.iload_n 2, 1) := by decide +kernel
theorem dX1_cut_24 : decode cX1_cut 24 = .ok (.ireturn, 1) := by decide +kernel
abbrev cX1_turn : ByteArray := prog_3_method_5_code
def yX1_turn : MethodName := ⟨RX1, "turn", "(I)I"⟩
theorem dX1_turn_0 : decode cX1_turn 0 = .ok (.iload_n 1, 1) := by decide +kernel
theorem dX1_turn_1 : decode cX1_turn 1 = .ok (.invokestatic 16, 3) := by decide +kernel
theorem dX1_turn_4 : decode cX1_turn 4 = .ok (.ifCond .eq 5, 3) := by decide +kernel
theorem dX1_turn_7 : decode cX1_turn 7 = .ok (.iconst (-1), 1) := by decide +kernel
theorem dX1_turn_8 : decode cX1_turn 8 = .ok (.ireturn, 1) := by decide +kernel
theorem dX1_turn_9 : decode cX1_turn 9 = .ok (.iconst (-1), 1) := by decide +kernel
theorem dX1_turn_10 : decode cX1_turn 10 = .ok (.istore_n 2, 1) := by decide +kernel
theorem dX1_turn_11 : decode cX1_turn 11 = .ok (.iload_n 1, 1) := by decide +kernel
theorem dX1_turn_12 : decode cX1_turn 12 = .ok (.istore_n 3, 1) := by decide +kernel
theorem dX1_turn_13 : decode cX1_turn 13 = .ok (.iload_n 3, 1) := by decide +kernel
theorem dX1_turn_14 : decode cX1_turn 14 = .ok (.ifCond .lt 26, 3) := by decide +kernel
theorem dX1_turn_17 : decode cX1_turn 17 = .ok (.aload_n 0, 1) := by decide +kernel
theorem dX1_turn_18 : decode cX1_turn 18 = .ok (.getfield 13, 3) := by decide +kernel
theorem dX1_turn_21 : decode cX1_turn 21 = .ok (.iload_n 3, 1) := by decide +kernel
theorem dX1_turn_22 : decode cX1_turn 22 = .ok (.iaload, 1) := by decide +kernel
theorem dX1_turn_23 : decode cX1_turn 23 = .ok (.istore 4, 2) := by decide +kernel
theorem dX1_turn_25 : decode cX1_turn 25 = .ok (.aload_n 0, 1) := by decide +kernel
theorem dX1_turn_26 : decode cX1_turn 26 = .ok (.getfield 13, 3) := by decide +kernel
theorem dX1_turn_29 : decode cX1_turn 29 = .ok (.iload_n 3, 1) := by decide +kernel
theorem dX1_turn_30 : decode cX1_turn 30 = .ok (.iload_n 2, 1) := by decide +kernel
theorem dX1_turn_31 : decode cX1_turn 31 = .ok (.iastore, 1) := by decide +kernel
theorem dX1_turn_32 : decode cX1_turn 32 = .ok (.iload_n 3, 1) := by decide +kernel
theorem dX1_turn_33 : decode cX1_turn 33 = .ok (.istore_n 2, 1) := by decide +kernel
theorem dX1_turn_34 : decode cX1_turn 34 = .ok (.iload 4, 2) := by decide +kernel
theorem dX1_turn_36 : decode cX1_turn 36 = .ok (.istore_n 3, 1) := by decide +kernel
theorem dX1_turn_37 : decode cX1_turn 37 = .ok (.goto (-24), 3) := by decide +kernel
theorem dX1_turn_40 : decode cX1_turn 40 = .ok (.iload_n 2, 1) := by decide +kernel
theorem dX1_turn_41 : decode cX1_turn 41 = .ok (.ireturn, 1) := by decide +kernel
abbrev cX1_set : ByteArray := prog_3_method_6_code
def yX1_set : MethodName := ⟨RX1, "set", "(II)I"⟩
theorem dX1_set_0 : decode cX1_set 0 = .ok (.iload_n 1, 1) := by decide +kernel
theorem dX1_set_1 : decode cX1_set 1 = .ok (.invokestatic 16, 3) := by decide +kernel
theorem dX1_set_4 : decode cX1_set 4 = .ok (.ifCond .eq 5, 3) := by decide +kernel
theorem dX1_set_7 : decode cX1_set 7 = .ok (.iconst 0, 1) := by decide +kernel
theorem dX1_set_8 : decode cX1_set 8 = .ok (.ireturn, 1) := by decide +kernel
theorem dX1_set_9 : decode cX1_set 9 = .ok (.aload_n 0, 1) := by decide +kernel
theorem dX1_set_10 : decode cX1_set 10 = .ok (.getfield 7, 3) := by decide +kernel
theorem dX1_set_13 : decode cX1_set 13 = .ok (.iload_n 1, 1) := by decide +kernel
theorem dX1_set_14 : decode cX1_set 14 = .ok (.iaload, 1) := by decide +kernel
theorem dX1_set_15 : decode cX1_set 15 = .ok (.istore_n 3, 1) := by decide +kernel
theorem dX1_set_16 : decode cX1_set 16 = .ok (.aload_n 0, 1) := by decide +kernel
theorem dX1_set_17 : decode cX1_set 17 = .ok (.getfield 7, 3) := by decide +kernel
theorem dX1_set_20 : decode cX1_set 20 = .ok (.iload_n 1, 1) := by decide +kernel
theorem dX1_set_21 : decode cX1_set 21 = .ok (.iload_n 2, 1) := by decide +kernel
theorem dX1_set_22 : decode cX1_set 22 = .ok (.iastore, 1) := by decide +kernel
theorem dX1_set_23 : decode cX1_set 23 = .ok (.iload_n 3, 1) := by decide +kernel
theorem dX1_set_24 : decode cX1_set 24 = .ok (.ireturn, 1) := by decide +kernel
abbrev cX1_paint : ByteArray := prog_3_method_7_code
def yX1_paint : MethodName := ⟨RX1, "paint", "(II)I"⟩
theorem dX1_paint_0 : decode cX1_paint 0 = .ok (.iload_n 1, 1) := by decide +kernel
theorem dX1_paint_1 : decode cX1_paint 1 = .ok (.invokestatic 16, 3) := by decide +kernel
theorem dX1_paint_4 : decode cX1_paint 4 = .ok (.ifCond .eq 5, 3) := by decide +kernel
theorem dX1_paint_7 : decode cX1_paint 7 = .ok (.iconst (-1), 1) := by decide +kernel
theorem dX1_paint_8 : decode cX1_paint 8 = .ok (.ireturn, 1) := by decide +kernel
theorem dX1_paint_9 : decode cX1_paint 9 = .ok (.iconst 0, 1) := by decide +kernel
theorem dX1_paint_10 : decode cX1_paint 10 = .ok (.istore_n 3, 1) := by decide +kernel
theorem dX1_paint_11 : decode cX1_paint 11 = .ok (.iload_n 1, 1) := by decide +kernel
theorem dX1_paint_12 : decode cX1_paint 12 = .ok (.istore 4, 2) := by decide +kernel
theorem dX1_paint_14 : decode cX1_paint 14 = .ok (.iload 4, 2) := by decide +kernel
theorem dX1_paint_16 : decode cX1_paint 16 = .ok (.ifCond .lt 26, 3) := by decide +kernel
theorem dX1_paint_19 : decode cX1_paint 19 = .ok (.aload_n 0, 1) := by decide +kernel
theorem dX1_paint_20 : decode cX1_paint 20 = .ok (.getfield 7, 3) := by decide +kernel
theorem dX1_paint_23 : decode cX1_paint 23 = .ok (.iload 4, 2) := by decide +kernel
theorem dX1_paint_25 : decode cX1_paint 25 = .ok (.iload_n 2, 1) := by decide +kernel
theorem dX1_paint_26 : decode cX1_paint 26 = .ok (.iastore, 1) := by decide +kernel
theorem dX1_paint_27 : decode cX1_paint 27 = .ok (.iinc 3 1, 3) := by decide +kernel
theorem dX1_paint_30 : decode cX1_paint 30 = .ok (.aload_n 0, 1) := by decide +kernel
theorem dX1_paint_31 : decode cX1_paint 31 = .ok (.getfield 13, 3) := by decide +kernel
theorem dX1_paint_34 : decode cX1_paint 34 = .ok (.iload 4, 2) := by decide +kernel
theorem dX1_paint_36 : decode cX1_paint 36 = .ok (.iaload, 1) := by decide +kernel
theorem dX1_paint_37 : decode cX1_paint 37 = .ok (.istore 4, 2) := by decide +kernel
theorem dX1_paint_39 : decode cX1_paint 39 = .ok (.goto (-25), 3) := by decide +kernel
theorem dX1_paint_42 : decode cX1_paint 42 = .ok (.iload_n 3, 1) := by decide +kernel
theorem dX1_paint_43 : decode cX1_paint 43 = .ok (.ireturn, 1) := by decide +kernel
abbrev cX1_parent : ByteArray := prog_3_method_9_code
def yX1_parent : MethodName := ⟨RX1, "parent", "(I)I"⟩
theorem dX1_parent_0 : decode cX1_parent 0 = .ok (.iload_n 1, 1) := by decide +kernel
theorem dX1_parent_1 : decode cX1_parent 1 = .ok (.invokestatic 16, 3) := by decide +kernel
theorem dX1_parent_4 : decode cX1_parent 4 = .ok (.ifCond .eq 7, 3) := by decide +kernel
theorem dX1_parent_7 : decode cX1_parent 7 = .ok (.iconst (-1), 1) := by decide +kernel
theorem dX1_parent_8 : decode cX1_parent 8 = .ok (.goto 9, 3) := by decide +kernel
theorem dX1_parent_11 : decode cX1_parent 11 = .ok (.aload_n 0, 1) := by decide +kernel
theorem dX1_parent_12 : decode cX1_parent 12 = .ok (.getfield 13, 3) := by decide +kernel
theorem dX1_parent_15 : decode cX1_parent 15 = .ok (.iload_n 1, 1) := by decide +kernel
theorem dX1_parent_16 : decode cX1_parent 16 = .ok (.iaload, 1) := by decide +kernel
theorem dX1_parent_17 : decode cX1_parent 17 = .ok (.ireturn, 1) := by decide +kernel
abbrev cX1_depth : ByteArray := prog_3_method_10_code
def yX1_depth : MethodName := ⟨RX1, "depth", "(I)I"⟩
theorem dX1_depth_0 : decode cX1_depth 0 = .ok (.iload_n 1, 1) := by decide +kernel
theorem dX1_depth_1 : decode cX1_depth 1 = .ok (.invokestatic 16, 3) := by decide +kernel
theorem dX1_depth_4 : decode cX1_depth 4 = .ok (.ifCond .eq 5, 3) := by decide +kernel
theorem dX1_depth_7 : decode cX1_depth 7 = .ok (.iconst (-1), 1) := by decide +kernel
theorem dX1_depth_8 : decode cX1_depth 8 = .ok (.ireturn, 1) := by decide +kernel
theorem dX1_depth_9 : decode cX1_depth 9 = .ok (.iconst 0, 1) := by decide +kernel
theorem dX1_depth_10 : decode cX1_depth 10 = .ok (.istore_n 2, 1) := by decide +kernel
theorem dX1_depth_11 : decode cX1_depth 11 = .ok (.iload_n 1, 1) := by decide +kernel
theorem dX1_depth_12 : decode cX1_depth 12 = .ok (.istore_n 3, 1) := by decide +kernel
theorem dX1_depth_13 : decode cX1_depth 13 = .ok (.aload_n 0, 1) := by decide +kernel
theorem dX1_depth_14 : decode cX1_depth 14 = .ok (.getfield 13, 3) := by decide +kernel
theorem dX1_depth_17 : decode cX1_depth 17 = .ok (.iload_n 3, 1) := by decide +kernel
theorem dX1_depth_18 : decode cX1_depth 18 = .ok (.iaload, 1) := by decide +kernel
theorem dX1_depth_19 : decode cX1_depth 19 = .ok (.ifCond .lt 16, 3) := by decide +kernel
theorem dX1_depth_22 : decode cX1_depth 22 = .ok (.aload_n 0, 1) := by decide +kernel
theorem dX1_depth_23 : decode cX1_depth 23 = .ok (.getfield 13, 3) := by decide +kernel
theorem dX1_depth_26 : decode cX1_depth 26 = .ok (.iload_n 3, 1) := by decide +kernel
theorem dX1_depth_27 : decode cX1_depth 27 = .ok (.iaload, 1) := by decide +kernel
theorem dX1_depth_28 : decode cX1_depth 28 = .ok (.istore_n 3, 1) := by decide +kernel
theorem dX1_depth_29 : decode cX1_depth 29 = .ok (.iinc 2 1, 3) := by decide +kernel
theorem dX1_depth_32 : decode cX1_depth 32 = .ok (.goto (-19), 3) := by decide +kernel
theorem dX1_depth_35 : decode cX1_depth 35 = .ok (.iload_n 2, 1) := by decide +kernel
theorem dX1_depth_36 : decode cX1_depth 36 = .ok (.ireturn, 1) := by decide +kernel
abbrev cX1_sumUp : ByteArray := prog_3_method_11_code
def yX1_sumUp : MethodName := ⟨RX1, "sumUp", "(I)I"⟩
theorem dX1_sumUp_0 : decode cX1_sumUp 0 = .ok (.iload_n 1, 1) := by decide +kernel
theorem dX1_sumUp_1 : decode cX1_sumUp 1 = .ok (.invokestatic 16, 3) := by decide +kernel
theorem dX1_sumUp_4 : decode cX1_sumUp 4 = .ok (.ifCond .eq 5, 3) := by decide +kernel
theorem dX1_sumUp_7 : decode cX1_sumUp 7 = .ok (.iconst 0, 1) := by decide +kernel
theorem dX1_sumUp_8 : decode cX1_sumUp 8 = .ok (.ireturn, 1) := by decide +kernel
theorem dX1_sumUp_9 : decode cX1_sumUp 9 = .ok (.iconst 0, 1) := by decide +kernel
theorem dX1_sumUp_10 : decode cX1_sumUp 10 = .ok (.istore_n 2, 1) := by decide +kernel
theorem dX1_sumUp_11 : decode cX1_sumUp 11 = .ok (.iload_n 1, 1) := by decide +kernel
theorem dX1_sumUp_12 : decode cX1_sumUp 12 = .ok (.istore_n 3, 1) := by decide +kernel
theorem dX1_sumUp_13 : decode cX1_sumUp 13 = .ok (.iload_n 3, 1) := by decide +kernel
theorem dX1_sumUp_14 : decode cX1_sumUp 14 = .ok (.ifCond .lt 22, 3) := by decide +kernel
theorem dX1_sumUp_17 : decode cX1_sumUp 17 = .ok (.iload_n 2, 1) := by decide +kernel
theorem dX1_sumUp_18 : decode cX1_sumUp 18 = .ok (.aload_n 0, 1) := by decide +kernel
theorem dX1_sumUp_19 : decode cX1_sumUp 19 = .ok (.getfield 7, 3) := by decide +kernel
theorem dX1_sumUp_22 : decode cX1_sumUp 22 = .ok (.iload_n 3, 1) := by decide +kernel
theorem dX1_sumUp_23 : decode cX1_sumUp 23 = .ok (.iaload, 1) := by decide +kernel
theorem dX1_sumUp_24 : decode cX1_sumUp 24 = .ok (.iadd, 1) := by decide +kernel
theorem dX1_sumUp_25 : decode cX1_sumUp 25 = .ok (.istore_n 2, 1) := by decide +kernel
theorem dX1_sumUp_26 : decode cX1_sumUp 26 = .ok (.aload_n 0, 1) := by decide +kernel
theorem dX1_sumUp_27 : decode cX1_sumUp 27 = .ok (.getfield 13, 3) := by decide +kernel
theorem dX1_sumUp_30 : decode cX1_sumUp 30 = .ok (.iload_n 3, 1) := by decide +kernel
theorem dX1_sumUp_31 : decode cX1_sumUp 31 = .ok (.iaload, 1) := by decide +kernel
theorem dX1_sumUp_32 : decode cX1_sumUp 32 = .ok (.istore_n 3, 1) := by decide +kernel
theorem dX1_sumUp_33 : decode cX1_sumUp 33 = .ok (.goto (-20), 3) := by decide +kernel
theorem dX1_sumUp_36 : decode cX1_sumUp 36 = .ok (.iload_n 2, 1) := by decide +kernel
theorem dX1_sumUp_37 : decode cX1_sumUp 37 = .ok (.ireturn, 1) := by decide +kernel
abbrev cX1_leastUp : ByteArray := prog_3_method_12_code
def yX1_leastUp : MethodName := ⟨RX1, "leastUp", "(I)I"⟩
theorem dX1_leastUp_0 : decode cX1_leastUp 0 = .ok (.iload_n 1, 1) := by decide +kernel
theorem dX1_leastUp_1 : decode cX1_leastUp 1 = .ok (.invokestatic 16, 3) := by decide +kernel
theorem dX1_leastUp_4 : decode cX1_leastUp 4 = .ok (.ifCond .eq 5, 3) := by decide +kernel
theorem dX1_leastUp_7 : decode cX1_leastUp 7 = .ok (.iconst 0, 1) := by decide +kernel
theorem dX1_leastUp_8 : decode cX1_leastUp 8 = .ok (.ireturn, 1) := by decide +kernel
theorem dX1_leastUp_9 : decode cX1_leastUp 9 = .ok (.aload_n 0, 1) := by decide +kernel
theorem dX1_leastUp_10 : decode cX1_leastUp 10 = .ok (.getfield 7, 3) := by decide +kernel
theorem dX1_leastUp_13 : decode cX1_leastUp 13 = .ok (.iload_n 1, 1) := by decide +kernel
theorem dX1_leastUp_14 : decode cX1_leastUp 14 = .ok (.iaload, 1) := by decide +kernel
theorem dX1_leastUp_15 : decode cX1_leastUp 15 = .ok (.istore_n 2, 1) := by decide +kernel
theorem dX1_leastUp_16 : decode cX1_leastUp 16 = .ok (.aload_n 0, 1) := by decide +kernel
theorem dX1_leastUp_17 : decode cX1_leastUp 17 = .ok (.getfield 13, 3) := by decide +kernel
theorem dX1_leastUp_20 : decode cX1_leastUp 20 = .ok (.iload_n 1, 1) := by decide +kernel
theorem dX1_leastUp_21 : decode cX1_leastUp 21 = .ok (.iaload, 1) := by decide +kernel
theorem dX1_leastUp_22 : decode cX1_leastUp 22 = .ok (.istore_n 3, 1) := by decide +kernel
theorem dX1_leastUp_23 : decode cX1_leastUp 23 = .ok (.iload_n 3, 1) := by decide +kernel
theorem dX1_leastUp_24 : decode cX1_leastUp 24 = .ok (.ifCond .lt 30, 3) := by decide +kernel
theorem dX1_leastUp_27 : decode cX1_leastUp 27 = .ok (.aload_n 0, 1) := by decide +kernel
theorem dX1_leastUp_28 : decode cX1_leastUp 28 = .ok (.getfield 7, 3) := by decide +kernel
theorem dX1_leastUp_31 : decode cX1_leastUp 31 = .ok (.iload_n 3, 1) := by decide +kernel
theorem dX1_leastUp_32 : decode cX1_leastUp 32 = .ok (.iaload, 1) := by decide +kernel
theorem dX1_leastUp_33 : decode cX1_leastUp 33 = .ok (.iload_n 2, 1) := by decide +kernel
theorem dX1_leastUp_34 : decode cX1_leastUp 34 = .ok (.if_icmp .ge 10, 3) := by decide +kernel
theorem dX1_leastUp_37 : decode cX1_leastUp 37 = .ok (.aload_n 0, 1) := by decide +kernel
theorem dX1_leastUp_38 : decode cX1_leastUp 38 = .ok (.getfield 7, 3) := by decide +kernel
theorem dX1_leastUp_41 : decode cX1_leastUp 41 = .ok (.iload_n 3, 1) := by decide +kernel
theorem dX1_leastUp_42 : decode cX1_leastUp 42 = .ok (.iaload, 1) := by decide +kernel
theorem dX1_leastUp_43 : decode cX1_leastUp 43 = .ok (.istore_n 2, 1) := by decide +kernel
theorem dX1_leastUp_44 : decode cX1_leastUp 44 = .ok (.aload_n 0, 1) := by decide +kernel
theorem dX1_leastUp_45 : decode cX1_leastUp 45 = .ok (.getfield 13, 3) := by decide +kernel
theorem dX1_leastUp_48 : decode cX1_leastUp 48 = .ok (.iload_n 3, 1) := by decide +kernel
theorem dX1_leastUp_49 : decode cX1_leastUp 49 = .ok (.iaload, 1) := by decide +kernel
theorem dX1_leastUp_50 : decode cX1_leastUp 50 = .ok (.istore_n 3, 1) := by decide +kernel
theorem dX1_leastUp_51 : decode cX1_leastUp 51 = .ok (.goto (-28), 3) := by decide +kernel
theorem dX1_leastUp_54 : decode cX1_leastUp 54 = .ok (.iload_n 2, 1) := by decide +kernel
theorem dX1_leastUp_55 : decode cX1_leastUp 55 = .ok (.ireturn, 1) := by decide +kernel
abbrev cX1_meet : ByteArray := prog_3_method_14_code
def yX1_meet : MethodName := ⟨RX1, "meet", "(II)I"⟩
theorem dX1_meet_0 : decode cX1_meet 0 = .ok (.iload_n 1, 1) := by decide +kernel
theorem dX1_meet_1 : decode cX1_meet 1 = .ok (.invokestatic 16, 3) := by decide +kernel
theorem dX1_meet_4 : decode cX1_meet 4 = .ok (.ifCond .ne 10, 3) := by decide +kernel
theorem dX1_meet_7 : decode cX1_meet 7 = .ok (.iload_n 2, 1) := by decide +kernel
theorem dX1_meet_8 : decode cX1_meet 8 = .ok (.invokestatic 16, 3) := by decide +kernel
theorem dX1_meet_11 : decode cX1_meet 11 = .ok (.ifCond .eq 5, 3) := by decide +kernel
theorem dX1_meet_14 : decode cX1_meet 14 = .ok (.iconst (-1), 1) := by decide +kernel
theorem dX1_meet_15 : decode cX1_meet 15 = .ok (.ireturn, 1) := by decide +kernel
theorem dX1_meet_16 : decode cX1_meet 16 = .ok (.iload_n 1, 1) := by decide +kernel
theorem dX1_meet_17 : decode cX1_meet 17 = .ok (.istore_n 3, 1) := by decide +kernel
theorem dX1_meet_18 : decode cX1_meet 18 = .ok (.iload_n 3, 1) := by decide +kernel
theorem dX1_meet_19 : decode cX1_meet 19 = .ok (.ifCond .lt 22, 3) := by decide +kernel
theorem dX1_meet_22 : decode cX1_meet 22 = .ok (.aload_n 0, 1) := by decide +kernel
theorem dX1_meet_23 : decode cX1_meet 23 = .ok (.iload_n 3, 1) := by decide +kernel
theorem dX1_meet_24 : decode cX1_meet 24 = .ok (.iload_n 2, 1) := by decide +kernel
theorem dX1_meet_25 : decode cX1_meet 25 = .ok (.invokevirtual 24, 3) := by decide +kernel
theorem dX1_meet_28 : decode cX1_meet 28 = .ok (.ifCond .ne 13, 3) := by decide +kernel
theorem dX1_meet_31 : decode cX1_meet 31 = .ok (.aload_n 0, 1) := by decide +kernel
theorem dX1_meet_32 : decode cX1_meet 32 = .ok (.getfield 13, 3) := by decide +kernel
theorem dX1_meet_35 : decode cX1_meet 35 = .ok (.iload_n 3, 1) := by decide +kernel
theorem dX1_meet_36 : decode cX1_meet 36 = .ok (.iaload, 1) := by decide +kernel
theorem dX1_meet_37 : decode cX1_meet 37 = .ok (.istore_n 3, 1) := by decide +kernel
theorem dX1_meet_38 : decode cX1_meet 38 = .ok (.goto (-20), 3) := by decide +kernel
theorem dX1_meet_41 : decode cX1_meet 41 = .ok (.iload_n 3, 1) := by decide +kernel
theorem dX1_meet_42 : decode cX1_meet 42 = .ok (.ireturn, 1) := by decide +kernel
abbrev cX1_onWay : ByteArray := prog_3_method_13_code
def yX1_onWay : MethodName := ⟨RX1, "onWay", "(II)Z"⟩
theorem dX1_onWay_0 : decode cX1_onWay 0 = .ok (.iload_n 2, 1) := by decide +kernel
theorem dX1_onWay_1 : decode cX1_onWay 1 = .ok (.istore_n 3, 1) := by decide +kernel
theorem dX1_onWay_2 : decode cX1_onWay 2 = .ok (.iload_n 3, 1) := by decide +kernel
theorem dX1_onWay_3 : decode cX1_onWay 3 = .ok (.ifCond .lt 18, 3) := by decide +kernel
theorem dX1_onWay_6 : decode cX1_onWay 6 = .ok (.iload_n 3, 1) := by decide +kernel
theorem dX1_onWay_7 : decode cX1_onWay 7 = .ok (.iload_n 1, 1) := by decide +kernel
theorem dX1_onWay_8 : decode cX1_onWay 8 = .ok (.if_icmp .eq 13, 3) := by decide +kernel
theorem dX1_onWay_11 : decode cX1_onWay 11 = .ok (.aload_n 0, 1) := by decide +kernel
theorem dX1_onWay_12 : decode cX1_onWay 12 = .ok (.getfield 13, 3) := by decide +kernel
theorem dX1_onWay_15 : decode cX1_onWay 15 = .ok (.iload_n 3, 1) := by decide +kernel
theorem dX1_onWay_16 : decode cX1_onWay 16 = .ok (.iaload, 1) := by decide +kernel
theorem dX1_onWay_17 : decode cX1_onWay 17 = .ok (.istore_n 3, 1) := by decide +kernel
theorem dX1_onWay_18 : decode cX1_onWay 18 = .ok (.goto (-16), 3) := by decide +kernel
theorem dX1_onWay_21 : decode cX1_onWay 21 = .ok (.iload_n 3, 1) := by decide +kernel
theorem dX1_onWay_22 : decode cX1_onWay 22 = .ok (.iload_n 1, 1) := by decide +kernel
theorem dX1_onWay_23 : decode cX1_onWay 23 = .ok (.if_icmp .ne 7, 3) := by decide +kernel
theorem dX1_onWay_26 : decode cX1_onWay 26 = .ok (.iconst 1, 1) := by decide +kernel
theorem dX1_onWay_27 : decode cX1_onWay 27 = .ok (.goto 4, 3) := by decide +kernel
theorem dX1_onWay_30 : decode cX1_onWay 30 = .ok (.iconst 0, 1) := by decide +kernel
theorem dX1_onWay_31 : decode cX1_onWay 31 = .ok (.ireturn, 1) := by decide +kernel
abbrev cX1_sumPart : ByteArray := prog_3_method_15_code
def yX1_sumPart : MethodName := ⟨RX1, "sumPart", "(I)I"⟩
theorem dX1_sumPart_0 : decode cX1_sumPart 0 = .ok (.iload_n 1, 1) := by decide +kernel
theorem dX1_sumPart_1 : decode cX1_sumPart 1 = .ok (.invokestatic 16, 3) := by decide +kernel
theorem dX1_sumPart_4 : decode cX1_sumPart 4 = .ok (.ifCond .eq 5, 3) := by decide +kernel
theorem dX1_sumPart_7 : decode cX1_sumPart 7 = .ok (.iconst 0, 1) := by decide +kernel
theorem dX1_sumPart_8 : decode cX1_sumPart 8 = .ok (.ireturn, 1) := by decide +kernel
theorem dX1_sumPart_9 : decode cX1_sumPart 9 = .ok (.iconst 0, 1) := by decide +kernel
theorem dX1_sumPart_10 : decode cX1_sumPart 10 = .ok (.istore_n 2, 1) := by decide +kernel
theorem dX1_sumPart_11 : decode cX1_sumPart 11 = .ok (.iconst 0, 1) := by decide +kernel
theorem dX1_sumPart_12 : decode cX1_sumPart 12 = .ok (.istore_n 3, 1) := by decide +kernel
theorem dX1_sumPart_13 : decode cX1_sumPart 13 = .ok (.iload_n 3, 1) := by decide +kernel
theorem dX1_sumPart_14 : decode cX1_sumPart 14 = .ok (.bipush 24, 2) := by decide +kernel
theorem dX1_sumPart_16 : decode cX1_sumPart 16 = .ok (.if_icmp .ge 27, 3) := by decide +kernel
theorem dX1_sumPart_19 : decode cX1_sumPart 19 = .ok (.aload_n 0, 1) := by decide +kernel
theorem dX1_sumPart_20 : decode cX1_sumPart 20 = .ok (.iload_n 1, 1) := by decide +kernel
theorem dX1_sumPart_21 : decode cX1_sumPart 21 = .ok (.iload_n 3, 1) := by decide +kernel
theorem dX1_sumPart_22 : decode cX1_sumPart 22 = .ok (.invokevirtual 24, 3) := by decide +kernel
theorem dX1_sumPart_25 : decode cX1_sumPart 25 = .ok (.ifCond .eq 12, 3) := by decide +kernel
theorem dX1_sumPart_28 : decode cX1_sumPart 28 = .ok (.iload_n 2, 1) := by decide +kernel
theorem dX1_sumPart_29 : decode cX1_sumPart 29 = .ok (.aload_n 0, 1) := by decide +kernel
theorem dX1_sumPart_30 : decode cX1_sumPart 30 = .ok (.getfield 7, 3) := by decide +kernel
theorem dX1_sumPart_33 : decode cX1_sumPart 33 = .ok (.iload_n 3, 1) := by decide +kernel
theorem dX1_sumPart_34 : decode cX1_sumPart 34 = .ok (.iaload, 1) := by decide +kernel
theorem dX1_sumPart_35 : decode cX1_sumPart 35 = .ok (.iadd, 1) := by decide +kernel
theorem dX1_sumPart_36 : decode cX1_sumPart 36 = .ok (.istore_n 2, 1) := by decide +kernel
theorem dX1_sumPart_37 : decode cX1_sumPart 37 = .ok (.iinc 3 1, 3) := by decide +kernel
theorem dX1_sumPart_40 : decode cX1_sumPart 40 = .ok (.goto (-27), 3) := by decide +kernel
theorem dX1_sumPart_43 : decode cX1_sumPart 43 = .ok (.iload_n 2, 1) := by decide +kernel
theorem dX1_sumPart_44 : decode cX1_sumPart 44 = .ok (.ireturn, 1) := by decide +kernel
theorem q12 : (Jvm.Cond.initialized "LinkForestModel") ∈ lw_all := lw_g (lw_at lw_m0 2 rfl) rfl
theorem q153 : (Jvm.Cond.instantiable "LinkForestModel" (2 : Nat)) ∈ lw_all := lw_g (lw_at lw_m0 143 rfl) rfl
theorem q155 : (Jvm.Cond.instanceMethod ({ cls := "LinkForestModel", name := "<init>", desc := "()V" } : Jvm.MethodName)) ∈ lw_all := lw_g (lw_at lw_m0 145 rfl) rfl
theorem q156 : (Jvm.Cond.code ({ cls := "LinkForestModel", name := "<init>", desc := "()V" } : Jvm.MethodName) prog_3_method_1_code (2 : Nat) (Option.none : Option Jvm.ClassFile.FieldType)) ∈ lw_all := lw_g (lw_at lw_m0 146 rfl) rfl
theorem q157 : (Jvm.Cond.methodLink "LinkForestModel" (1 : Nat) ({ cls := "java/lang/Object", name := "<init>", desc := "()V" } : Jvm.MethodName)) ∈ lw_all := lw_g (lw_at lw_m0 147 rfl) rfl
theorem q158 : (Jvm.Cond.fieldLink "LinkForestModel" (7 : Nat) "LinkForestModel" "values" "[I") ∈ lw_all := lw_g (lw_at lw_m0 148 rfl) rfl
theorem q159 : (Jvm.Cond.fieldLink "LinkForestModel" (13 : Nat) "LinkForestModel" "parents" "[I") ∈ lw_all := lw_g (lw_at lw_m0 149 rfl) rfl
theorem q160 : (Jvm.Cond.laysFinal "LinkForestModel" "LinkForestModel" "values" "[I") ∈ lw_all := lw_g (lw_at lw_m0 150 rfl) rfl
theorem q161 : (Jvm.Cond.soleField "LinkForestModel" "values") ∈ lw_all := lw_g (lw_at lw_m0 151 rfl) rfl
theorem q162 : (Jvm.Cond.laysFinal "LinkForestModel" "LinkForestModel" "parents" "[I") ∈ lw_all := lw_g (lw_at lw_m0 152 rfl) rfl
theorem q163 : (Jvm.Cond.soleField "LinkForestModel" "parents") ∈ lw_all := lw_g (lw_at lw_m0 153 rfl) rfl
theorem q164 : (Jvm.Cond.superclass "LinkForestModel" "java/lang/Object") ∈ lw_all := lw_g (lw_at lw_m0 154 rfl) rfl
theorem q166 : (Jvm.Cond.instanceMethod ({ cls := "LinkForestModel", name := "link", desc := "(II)I" } : Jvm.MethodName)) ∈ lw_all := lw_g (lw_at lw_m0 156 rfl) rfl
theorem q167 : (Jvm.Cond.selects "LinkForestModel" ({ cls := "LinkForestModel", name := "link", desc := "(II)I" } : Jvm.MethodName) ({ cls := "LinkForestModel", name := "link", desc := "(II)I" } : Jvm.MethodName)) ∈ lw_all := lw_g (lw_at lw_m0 157 rfl) rfl
theorem q168 : (Jvm.Cond.code ({ cls := "LinkForestModel", name := "link", desc := "(II)I" } : Jvm.MethodName) prog_3_method_3_code (3 : Nat) (Option.some Jvm.ClassFile.FieldType.int)) ∈ lw_all := lw_g (lw_at lw_m0 158 rfl) rfl
theorem q169 : (Jvm.Cond.methodLink "LinkForestModel" (16 : Nat) ({ cls := "LinkForestModel", name := "bad", desc := "(I)Z" } : Jvm.MethodName)) ∈ lw_all := lw_g (lw_at lw_m0 159 rfl) rfl
theorem q170 : (Jvm.Cond.static ({ cls := "LinkForestModel", name := "bad", desc := "(I)Z" } : Jvm.MethodName)) ∈ lw_all := lw_g (lw_at lw_m0 160 rfl) rfl
theorem q171 : (Jvm.Cond.code ({ cls := "LinkForestModel", name := "bad", desc := "(I)Z" } : Jvm.MethodName) prog_3_method_2_code (1 : Nat) (Option.some Jvm.ClassFile.FieldType.boolean)) ∈ lw_all := lw_g (lw_at lw_m0 161 rfl) rfl
theorem q172 : (Jvm.Cond.methodLink "LinkForestModel" (20 : Nat) ({ cls := "LinkForestModel", name := "root", desc := "(I)I" } : Jvm.MethodName)) ∈ lw_all := lw_g (lw_at lw_m0 162 rfl) rfl
theorem q173 : (Jvm.Cond.instanceMethod ({ cls := "LinkForestModel", name := "root", desc := "(I)I" } : Jvm.MethodName)) ∈ lw_all := lw_g (lw_at lw_m0 163 rfl) rfl
theorem q174 : (Jvm.Cond.selects "LinkForestModel" ({ cls := "LinkForestModel", name := "root", desc := "(I)I" } : Jvm.MethodName) ({ cls := "LinkForestModel", name := "root", desc := "(I)I" } : Jvm.MethodName)) ∈ lw_all := lw_g (lw_at lw_m0 164 rfl) rfl
theorem q175 : (Jvm.Cond.code ({ cls := "LinkForestModel", name := "root", desc := "(I)I" } : Jvm.MethodName) prog_3_method_8_code (3 : Nat) (Option.some Jvm.ClassFile.FieldType.int)) ∈ lw_all := lw_g (lw_at lw_m0 165 rfl) rfl
theorem q177 : (Jvm.Cond.instanceMethod ({ cls := "LinkForestModel", name := "cut", desc := "(I)I" } : Jvm.MethodName)) ∈ lw_all := lw_g (lw_at lw_m0 167 rfl) rfl
theorem q178 : (Jvm.Cond.selects "LinkForestModel" ({ cls := "LinkForestModel", name := "cut", desc := "(I)I" } : Jvm.MethodName) ({ cls := "LinkForestModel", name := "cut", desc := "(I)I" } : Jvm.MethodName)) ∈ lw_all := lw_g (lw_at lw_m0 168 rfl) rfl
theorem q179 : (Jvm.Cond.code ({ cls := "LinkForestModel", name := "cut", desc := "(I)I" } : Jvm.MethodName) prog_3_method_4_code (3 : Nat) (Option.some Jvm.ClassFile.FieldType.int)) ∈ lw_all := lw_g (lw_at lw_m0 169 rfl) rfl
theorem q181 : (Jvm.Cond.instanceMethod ({ cls := "LinkForestModel", name := "turn", desc := "(I)I" } : Jvm.MethodName)) ∈ lw_all := lw_g (lw_at lw_m0 171 rfl) rfl
theorem q182 : (Jvm.Cond.selects "LinkForestModel" ({ cls := "LinkForestModel", name := "turn", desc := "(I)I" } : Jvm.MethodName) ({ cls := "LinkForestModel", name := "turn", desc := "(I)I" } : Jvm.MethodName)) ∈ lw_all := lw_g (lw_at lw_m0 172 rfl) rfl
theorem q183 : (Jvm.Cond.code ({ cls := "LinkForestModel", name := "turn", desc := "(I)I" } : Jvm.MethodName) prog_3_method_5_code (5 : Nat) (Option.some Jvm.ClassFile.FieldType.int)) ∈ lw_all := lw_g (lw_at lw_m0 173 rfl) rfl
theorem q185 : (Jvm.Cond.instanceMethod ({ cls := "LinkForestModel", name := "set", desc := "(II)I" } : Jvm.MethodName)) ∈ lw_all := lw_g (lw_at lw_m0 175 rfl) rfl
theorem q186 : (Jvm.Cond.selects "LinkForestModel" ({ cls := "LinkForestModel", name := "set", desc := "(II)I" } : Jvm.MethodName) ({ cls := "LinkForestModel", name := "set", desc := "(II)I" } : Jvm.MethodName)) ∈ lw_all := lw_g (lw_at lw_m0 176 rfl) rfl
theorem q187 : (Jvm.Cond.code ({ cls := "LinkForestModel", name := "set", desc := "(II)I" } : Jvm.MethodName) prog_3_method_6_code (4 : Nat) (Option.some Jvm.ClassFile.FieldType.int)) ∈ lw_all := lw_g (lw_at lw_m0 177 rfl) rfl
theorem q189 : (Jvm.Cond.instanceMethod ({ cls := "LinkForestModel", name := "paint", desc := "(II)I" } : Jvm.MethodName)) ∈ lw_all := lw_g (lw_at lw_m0 179 rfl) rfl
theorem q190 : (Jvm.Cond.selects "LinkForestModel" ({ cls := "LinkForestModel", name := "paint", desc := "(II)I" } : Jvm.MethodName) ({ cls := "LinkForestModel", name := "paint", desc := "(II)I" } : Jvm.MethodName)) ∈ lw_all := lw_g (lw_at lw_m0 180 rfl) rfl
theorem q191 : (Jvm.Cond.code ({ cls := "LinkForestModel", name := "paint", desc := "(II)I" } : Jvm.MethodName) prog_3_method_7_code (5 : Nat) (Option.some Jvm.ClassFile.FieldType.int)) ∈ lw_all := lw_g (lw_at lw_m0 181 rfl) rfl
theorem q194 : (Jvm.Cond.instanceMethod ({ cls := "LinkForestModel", name := "parent", desc := "(I)I" } : Jvm.MethodName)) ∈ lw_all := lw_g (lw_at lw_m0 184 rfl) rfl
theorem q195 : (Jvm.Cond.selects "LinkForestModel" ({ cls := "LinkForestModel", name := "parent", desc := "(I)I" } : Jvm.MethodName) ({ cls := "LinkForestModel", name := "parent", desc := "(I)I" } : Jvm.MethodName)) ∈ lw_all := lw_g (lw_at lw_m0 185 rfl) rfl
theorem q196 : (Jvm.Cond.code ({ cls := "LinkForestModel", name := "parent", desc := "(I)I" } : Jvm.MethodName) prog_3_method_9_code (2 : Nat) (Option.some Jvm.ClassFile.FieldType.int)) ∈ lw_all := lw_g (lw_at lw_m0 186 rfl) rfl
theorem q198 : (Jvm.Cond.instanceMethod ({ cls := "LinkForestModel", name := "depth", desc := "(I)I" } : Jvm.MethodName)) ∈ lw_all := lw_g (lw_at lw_m0 188 rfl) rfl
theorem q199 : (Jvm.Cond.selects "LinkForestModel" ({ cls := "LinkForestModel", name := "depth", desc := "(I)I" } : Jvm.MethodName) ({ cls := "LinkForestModel", name := "depth", desc := "(I)I" } : Jvm.MethodName)) ∈ lw_all := lw_g (lw_at lw_m0 189 rfl) rfl
theorem q200 : (Jvm.Cond.code ({ cls := "LinkForestModel", name := "depth", desc := "(I)I" } : Jvm.MethodName) prog_3_method_10_code (4 : Nat) (Option.some Jvm.ClassFile.FieldType.int)) ∈ lw_all := lw_g (lw_at lw_m0 190 rfl) rfl
theorem q202 : (Jvm.Cond.instanceMethod ({ cls := "LinkForestModel", name := "sumUp", desc := "(I)I" } : Jvm.MethodName)) ∈ lw_all := lw_g (lw_at lw_m0 192 rfl) rfl
theorem q203 : (Jvm.Cond.selects "LinkForestModel" ({ cls := "LinkForestModel", name := "sumUp", desc := "(I)I" } : Jvm.MethodName) ({ cls := "LinkForestModel", name := "sumUp", desc := "(I)I" } : Jvm.MethodName)) ∈ lw_all := lw_g (lw_at lw_m0 193 rfl) rfl
theorem q204 : (Jvm.Cond.code ({ cls := "LinkForestModel", name := "sumUp", desc := "(I)I" } : Jvm.MethodName) prog_3_method_11_code (4 : Nat) (Option.some Jvm.ClassFile.FieldType.int)) ∈ lw_all := lw_g (lw_at lw_m0 194 rfl) rfl
theorem q206 : (Jvm.Cond.instanceMethod ({ cls := "LinkForestModel", name := "leastUp", desc := "(I)I" } : Jvm.MethodName)) ∈ lw_all := lw_g (lw_at lw_m0 196 rfl) rfl
theorem q207 : (Jvm.Cond.selects "LinkForestModel" ({ cls := "LinkForestModel", name := "leastUp", desc := "(I)I" } : Jvm.MethodName) ({ cls := "LinkForestModel", name := "leastUp", desc := "(I)I" } : Jvm.MethodName)) ∈ lw_all := lw_g (lw_at lw_m0 197 rfl) rfl
theorem q208 : (Jvm.Cond.code ({ cls := "LinkForestModel", name := "leastUp", desc := "(I)I" } : Jvm.MethodName) prog_3_method_12_code (4 : Nat) (Option.some Jvm.ClassFile.FieldType.int)) ∈ lw_all := lw_g (lw_at lw_m0 198 rfl) rfl
theorem q210 : (Jvm.Cond.instanceMethod ({ cls := "LinkForestModel", name := "meet", desc := "(II)I" } : Jvm.MethodName)) ∈ lw_all := lw_g (lw_at lw_m0 200 rfl) rfl
theorem q211 : (Jvm.Cond.selects "LinkForestModel" ({ cls := "LinkForestModel", name := "meet", desc := "(II)I" } : Jvm.MethodName) ({ cls := "LinkForestModel", name := "meet", desc := "(II)I" } : Jvm.MethodName)) ∈ lw_all := lw_g (lw_at lw_m0 201 rfl) rfl
theorem q212 : (Jvm.Cond.code ({ cls := "LinkForestModel", name := "meet", desc := "(II)I" } : Jvm.MethodName) prog_3_method_14_code (4 : Nat) (Option.some Jvm.ClassFile.FieldType.int)) ∈ lw_all := lw_g (lw_at lw_m0 202 rfl) rfl
theorem q213 : (Jvm.Cond.methodLink "LinkForestModel" (24 : Nat) ({ cls := "LinkForestModel", name := "onWay", desc := "(II)Z" } : Jvm.MethodName)) ∈ lw_all := lw_g (lw_at lw_m0 203 rfl) rfl
theorem q214 : (Jvm.Cond.privateMethod ({ cls := "LinkForestModel", name := "onWay", desc := "(II)Z" } : Jvm.MethodName)) ∈ lw_tbl := lw_at lw_m0 204 rfl
theorem q215 : (Jvm.Cond.instanceMethod ({ cls := "LinkForestModel", name := "onWay", desc := "(II)Z" } : Jvm.MethodName)) ∈ lw_all := lw_g (lw_at lw_m0 205 rfl) rfl
theorem q216 : (Jvm.Cond.code ({ cls := "LinkForestModel", name := "onWay", desc := "(II)Z" } : Jvm.MethodName) prog_3_method_13_code (4 : Nat) (Option.some Jvm.ClassFile.FieldType.boolean)) ∈ lw_all := lw_g (lw_at lw_m0 206 rfl) rfl
theorem q218 : (Jvm.Cond.instanceMethod ({ cls := "LinkForestModel", name := "sumPart", desc := "(I)I" } : Jvm.MethodName)) ∈ lw_all := lw_g (lw_at lw_m0 208 rfl) rfl
theorem q219 : (Jvm.Cond.selects "LinkForestModel" ({ cls := "LinkForestModel", name := "sumPart", desc := "(I)I" } : Jvm.MethodName) ({ cls := "LinkForestModel", name := "sumPart", desc := "(I)I" } : Jvm.MethodName)) ∈ lw_all := lw_g (lw_at lw_m0 209 rfl) rfl
theorem q220 : (Jvm.Cond.code ({ cls := "LinkForestModel", name := "sumPart", desc := "(I)I" } : Jvm.MethodName) prog_3_method_15_code (4 : Nat) (Option.some Jvm.ClassFile.FieldType.int)) ∈ lw_all := lw_g (lw_at lw_m0 210 rfl) rfl
theorem in_X1 : ∀ w ∈ wsX10, w ∈ lw_all := lw_in wsX10 [160, 162] (by decide +kernel) (by decide +kernel)
end
section
/-! java/lang/Object -/
set_option maxRecDepth 100000
def RJ0 : String := "java/lang/Object"
abbrev cJ0_init : ByteArray := object_method_1_code
def yJ0_init : MethodName := ⟨RJ0, "<init>", "()V"⟩
theorem dJ0_init_0 : decode cJ0_init 0 = .ok (.return_, 1) := by decide +kernel
theorem q19 : (Jvm.Cond.instanceMethod ({ cls := "java/lang/Object", name := "<init>", desc := "()V" } : Jvm.MethodName)) ∈ lw_all := lw_g (lw_at lw_m0 9 rfl) rfl
theorem q20 : (Jvm.Cond.code ({ cls := "java/lang/Object", name := "<init>", desc := "()V" } : Jvm.MethodName) object_method_1_code (1 : Nat) (Option.none : Option Jvm.ClassFile.FieldType)) ∈ lw_all := lw_g (lw_at lw_m0 10 rfl) rfl
theorem q61 : (Jvm.Cond.arrayClass Jvm.ClassFile.FieldType.int) ∈ lw_all := lw_g (lw_at lw_m0 51 rfl) rfl
set_option maxRecDepth 100000
theorem q62 : (Jvm.Cond.arrayClass Jvm.ClassFile.FieldType.boolean) ∈ lw_all := lw_g (lw_at lw_m0 52 rfl) rfl
theorem q10 : (Jvm.Cond.initialized "LinkForestLaw") ∈ lw_all := lw_g (lw_at lw_m0 0 rfl) rfl
set_option maxRecDepth 100000
theorem q13 : (Jvm.Cond.classLink "LinkForestLaw" (7 : Nat) "LinkForest") ∈ lw_all := lw_g (lw_at lw_m0 3 rfl) rfl
theorem q15 : (Jvm.Cond.methodLink "LinkForestLaw" (9 : Nat) ({ cls := "LinkForest", name := "<init>", desc := "()V" } : Jvm.MethodName)) ∈ lw_all := lw_g (lw_at lw_m0 5 rfl) rfl
theorem q63 : (Jvm.Cond.methodLink "LinkForestLaw" (13 : Nat) ({ cls := "LinkForest", name := "link", desc := "(II)I" } : Jvm.MethodName)) ∈ lw_all := lw_g (lw_at lw_m0 53 rfl) rfl
theorem q110 : (Jvm.Cond.methodLink "LinkForestLaw" (18 : Nat) ({ cls := "LinkForest", name := "cut", desc := "(I)I" } : Jvm.MethodName)) ∈ lw_all := lw_g (lw_at lw_m0 100 rfl) rfl
theorem q118 : (Jvm.Cond.methodLink "LinkForestLaw" (23 : Nat) ({ cls := "LinkForest", name := "turn", desc := "(I)I" } : Jvm.MethodName)) ∈ lw_all := lw_g (lw_at lw_m0 108 rfl) rfl
theorem q122 : (Jvm.Cond.methodLink "LinkForestLaw" (27 : Nat) ({ cls := "LinkForest", name := "set", desc := "(II)I" } : Jvm.MethodName)) ∈ lw_all := lw_g (lw_at lw_m0 112 rfl) rfl
theorem q126 : (Jvm.Cond.methodLink "LinkForestLaw" (31 : Nat) ({ cls := "LinkForest", name := "paint", desc := "(II)I" } : Jvm.MethodName)) ∈ lw_all := lw_g (lw_at lw_m0 116 rfl) rfl
theorem q130 : (Jvm.Cond.methodLink "LinkForestLaw" (35 : Nat) ({ cls := "LinkForest", name := "root", desc := "(I)I" } : Jvm.MethodName)) ∈ lw_all := lw_g (lw_at lw_m0 120 rfl) rfl
theorem q131 : (Jvm.Cond.methodLink "LinkForestLaw" (39 : Nat) ({ cls := "LinkForest", name := "parent", desc := "(I)I" } : Jvm.MethodName)) ∈ lw_all := lw_g (lw_at lw_m0 121 rfl) rfl
theorem q132 : (Jvm.Cond.methodLink "LinkForestLaw" (43 : Nat) ({ cls := "LinkForest", name := "depth", desc := "(I)I" } : Jvm.MethodName)) ∈ lw_all := lw_g (lw_at lw_m0 122 rfl) rfl
theorem q136 : (Jvm.Cond.methodLink "LinkForestLaw" (47 : Nat) ({ cls := "LinkForest", name := "sumUp", desc := "(I)I" } : Jvm.MethodName)) ∈ lw_all := lw_g (lw_at lw_m0 126 rfl) rfl
theorem q140 : (Jvm.Cond.methodLink "LinkForestLaw" (51 : Nat) ({ cls := "LinkForest", name := "leastUp", desc := "(I)I" } : Jvm.MethodName)) ∈ lw_all := lw_g (lw_at lw_m0 130 rfl) rfl
theorem q144 : (Jvm.Cond.methodLink "LinkForestLaw" (55 : Nat) ({ cls := "LinkForest", name := "meet", desc := "(II)I" } : Jvm.MethodName)) ∈ lw_all := lw_g (lw_at lw_m0 134 rfl) rfl
theorem q148 : (Jvm.Cond.methodLink "LinkForestLaw" (59 : Nat) ({ cls := "LinkForest", name := "sumPart", desc := "(I)I" } : Jvm.MethodName)) ∈ lw_all := lw_g (lw_at lw_m0 138 rfl) rfl
theorem q152 : (Jvm.Cond.classLink "LinkForestLaw" (10 : Nat) "LinkForestModel") ∈ lw_all := lw_g (lw_at lw_m0 142 rfl) rfl
theorem q154 : (Jvm.Cond.methodLink "LinkForestLaw" (12 : Nat) ({ cls := "LinkForestModel", name := "<init>", desc := "()V" } : Jvm.MethodName)) ∈ lw_all := lw_g (lw_at lw_m0 144 rfl) rfl
theorem q165 : (Jvm.Cond.methodLink "LinkForestLaw" (17 : Nat) ({ cls := "LinkForestModel", name := "link", desc := "(II)I" } : Jvm.MethodName)) ∈ lw_all := lw_g (lw_at lw_m0 155 rfl) rfl
theorem q176 : (Jvm.Cond.methodLink "LinkForestLaw" (22 : Nat) ({ cls := "LinkForestModel", name := "cut", desc := "(I)I" } : Jvm.MethodName)) ∈ lw_all := lw_g (lw_at lw_m0 166 rfl) rfl
theorem q180 : (Jvm.Cond.methodLink "LinkForestLaw" (26 : Nat) ({ cls := "LinkForestModel", name := "turn", desc := "(I)I" } : Jvm.MethodName)) ∈ lw_all := lw_g (lw_at lw_m0 170 rfl) rfl
theorem q184 : (Jvm.Cond.methodLink "LinkForestLaw" (30 : Nat) ({ cls := "LinkForestModel", name := "set", desc := "(II)I" } : Jvm.MethodName)) ∈ lw_all := lw_g (lw_at lw_m0 174 rfl) rfl
theorem q188 : (Jvm.Cond.methodLink "LinkForestLaw" (34 : Nat) ({ cls := "LinkForestModel", name := "paint", desc := "(II)I" } : Jvm.MethodName)) ∈ lw_all := lw_g (lw_at lw_m0 178 rfl) rfl
theorem q192 : (Jvm.Cond.methodLink "LinkForestLaw" (38 : Nat) ({ cls := "LinkForestModel", name := "root", desc := "(I)I" } : Jvm.MethodName)) ∈ lw_all := lw_g (lw_at lw_m0 182 rfl) rfl
theorem q193 : (Jvm.Cond.methodLink "LinkForestLaw" (42 : Nat) ({ cls := "LinkForestModel", name := "parent", desc := "(I)I" } : Jvm.MethodName)) ∈ lw_all := lw_g (lw_at lw_m0 183 rfl) rfl
theorem q197 : (Jvm.Cond.methodLink "LinkForestLaw" (46 : Nat) ({ cls := "LinkForestModel", name := "depth", desc := "(I)I" } : Jvm.MethodName)) ∈ lw_all := lw_g (lw_at lw_m0 187 rfl) rfl
theorem q201 : (Jvm.Cond.methodLink "LinkForestLaw" (50 : Nat) ({ cls := "LinkForestModel", name := "sumUp", desc := "(I)I" } : Jvm.MethodName)) ∈ lw_all := lw_g (lw_at lw_m0 191 rfl) rfl
theorem q205 : (Jvm.Cond.methodLink "LinkForestLaw" (54 : Nat) ({ cls := "LinkForestModel", name := "leastUp", desc := "(I)I" } : Jvm.MethodName)) ∈ lw_all := lw_g (lw_at lw_m0 195 rfl) rfl
theorem q209 : (Jvm.Cond.methodLink "LinkForestLaw" (58 : Nat) ({ cls := "LinkForestModel", name := "meet", desc := "(II)I" } : Jvm.MethodName)) ∈ lw_all := lw_g (lw_at lw_m0 199 rfl) rfl
theorem q217 : (Jvm.Cond.methodLink "LinkForestLaw" (62 : Nat) ({ cls := "LinkForestModel", name := "sumPart", desc := "(I)I" } : Jvm.MethodName)) ∈ lw_all := lw_g (lw_at lw_m0 207 rfl) rfl
/-! the law's own entry -/
set_option maxRecDepth 100000
abbrev cL_law : ByteArray := code
theorem dL_law_0 : decode cL_law 0 = .ok (.new 7, 3) := by decide +kernel
theorem dL_law_3 : decode cL_law 3 = .ok (.dup, 1) := by decide +kernel
theorem dL_law_4 : decode cL_law 4 = .ok (.invokespecial 9, 3) := by decide +kernel
theorem dL_law_7 : decode cL_law 7 = .ok (.astore_n 1, 1) := by decide +kernel
theorem dL_law_8 : decode cL_law 8 = .ok (.new 10, 3) := by decide +kernel
theorem dL_law_11 : decode cL_law 11 = .ok (.dup, 1) := by decide +kernel
theorem dL_law_12 : decode cL_law 12 = .ok (.invokespecial 12, 3) := by decide +kernel
theorem dL_law_15 : decode cL_law 15 = .ok (.astore_n 2, 1) := by decide +kernel
theorem dL_law_16 : decode cL_law 16 = .ok (.iconst 0, 1) := by decide +kernel
theorem dL_law_17 : decode cL_law 17 = .ok (.istore_n 3, 1) := by decide +kernel
theorem dL_law_18 : decode cL_law 18 = .ok (.iload_n 3, 1) := by decide +kernel
theorem dL_law_19 : decode cL_law 19 = .ok (.aload_n 0, 1) := by decide +kernel
theorem dL_law_20 : decode cL_law 20 = .ok (.arraylength, 1) := by decide +kernel
theorem dL_law_21 : decode cL_law 21 = .ok (.iconst 3, 1) := by decide +kernel
theorem dL_law_22 : decode cL_law 22 = .ok (.isub, 1) := by decide +kernel
theorem dL_law_23 : decode cL_law 23 = .ok (.if_icmp .gt 395, 3) := by decide +kernel
theorem dL_law_26 : decode cL_law 26 = .ok (.aload_n 0, 1) := by decide +kernel
theorem dL_law_27 : decode cL_law 27 = .ok (.iload_n 3, 1) := by decide +kernel
theorem dL_law_28 : decode cL_law 28 = .ok (.iaload, 1) := by decide +kernel
theorem dL_law_29 : decode cL_law 29 = .ok (.bipush 15, 2) := by decide +kernel
theorem dL_law_31 : decode cL_law 31 = .ok (.iand, 1) := by decide +kernel
theorem dL_law_32 : decode cL_law 32 = .ok (.tableswitch 380 0 11 #[64, 97, 120, 143, 176, 209, 232, 255, 278, 301, 324, 357], 64) := by decide +kernel
theorem dL_law_96 : decode cL_law 96 = .ok (.aload_n 1, 1) := by decide +kernel
theorem dL_law_97 : decode cL_law 97 = .ok (.aload_n 0, 1) := by decide +kernel
theorem dL_law_98 : decode cL_law 98 = .ok (.iload_n 3, 1) := by decide +kernel
theorem dL_law_99 : decode cL_law 99 = .ok (.iconst 1, 1) := by decide +kernel
theorem dL_law_100 : decode cL_law 100 = .ok (.iadd, 1) := by decide +kernel
theorem dL_law_101 : decode cL_law 101 = .ok (.iaload, 1) := by decide +kernel
theorem dL_law_102 : decode cL_law 102 = .ok (.aload_n 0, 1) := by decide +kernel
theorem dL_law_103 : decode cL_law 103 = .ok (.iload_n 3, 1) := by decide +kernel
theorem dL_law_104 : decode cL_law 104 = .ok (.iconst 2, 1) := by decide +kernel
theorem dL_law_105 : decode cL_law 105 = .ok (.iadd, 1) := by decide +kernel
theorem dL_law_106 : decode cL_law 106 = .ok (.iaload, 1) := by decide +kernel
theorem dL_law_107 : decode cL_law 107 = .ok (.invokevirtual 13, 3) := by decide +kernel
theorem dL_law_110 : decode cL_law 110 = .ok (.aload_n 2, 1) := by decide +kernel
theorem dL_law_111 : decode cL_law 111 = .ok (.aload_n 0, 1) := by decide +kernel
theorem dL_law_112 : decode cL_law 112 = .ok (.iload_n 3, 1) := by decide +kernel
theorem dL_law_113 : decode cL_law 113 = .ok (.iconst 1, 1) := by decide +kernel
theorem dL_law_114 : decode cL_law 114 = .ok (.iadd, 1) := by decide +kernel
theorem dL_law_115 : decode cL_law 115 = .ok (.iaload, 1) := by decide +kernel
theorem dL_law_116 : decode cL_law 116 = .ok (.aload_n 0, 1) := by decide +kernel
theorem dL_law_117 : decode cL_law 117 = .ok (.iload_n 3, 1) := by decide +kernel
theorem dL_law_118 : decode cL_law 118 = .ok (.iconst 2, 1) := by decide +kernel
theorem dL_law_119 : decode cL_law 119 = .ok (.iadd, 1) := by decide +kernel
theorem dL_law_120 : decode cL_law 120 = .ok (.iaload, 1) := by decide +kernel
theorem dL_law_121 : decode cL_law 121 = .ok (.invokevirtual 17, 3) := by decide +kernel
theorem dL_law_124 : decode cL_law 124 = .ok (.if_icmp .eq 288, 3) := by decide +kernel
theorem dL_law_127 : decode cL_law 127 = .ok (.iconst 0, 1) := by decide +kernel
theorem dL_law_128 : decode cL_law 128 = .ok (.ireturn, 1) := by decide +kernel
theorem dL_law_129 : decode cL_law 129 = .ok (.aload_n 1, 1) := by decide +kernel
theorem dL_law_130 : decode cL_law 130 = .ok (.aload_n 0, 1) := by decide +kernel
theorem dL_law_131 : decode cL_law 131 = .ok (.iload_n 3, 1) := by decide +kernel
theorem dL_law_132 : decode cL_law 132 = .ok (.iconst 1, 1) := by decide +kernel
theorem dL_law_133 : decode cL_law 133 = .ok (.iadd, 1) := by decide +kernel
theorem dL_law_134 : decode cL_law 134 = .ok (.iaload, 1) := by decide +kernel
theorem dL_law_135 : decode cL_law 135 = .ok (.invokevirtual 18, 3) := by decide +kernel
theorem dL_law_138 : decode cL_law 138 = .ok (.aload_n 2, 1) := by decide +kernel
theorem dL_law_139 : decode cL_law 139 = .ok (.aload_n 0, 1) := by decide +kernel
theorem dL_law_140 : decode cL_law 140 = .ok (.iload_n 3, 1) := by decide +kernel
theorem dL_law_141 : decode cL_law 141 = .ok (.iconst 1, 1) := by decide +kernel
theorem dL_law_142 : decode cL_law 142 = .ok (.iadd, 1) := by decide +kernel
theorem dL_law_143 : decode cL_law 143 = .ok (.iaload, 1) := by decide +kernel
theorem dL_law_144 : decode cL_law 144 = .ok (.invokevirtual 22, 3) := by decide +kernel
theorem dL_law_147 : decode cL_law 147 = .ok (.if_icmp .eq 265, 3) := by decide +kernel
theorem dL_law_150 : decode cL_law 150 = .ok (.iconst 0, 1) := by decide +kernel
theorem dL_law_151 : decode cL_law 151 = .ok (.ireturn, 1) := by decide +kernel
theorem dL_law_152 : decode cL_law 152 = .ok (.aload_n 1, 1) := by decide +kernel
theorem dL_law_153 : decode cL_law 153 = .ok (.aload_n 0, 1) := by decide +kernel
theorem dL_law_154 : decode cL_law 154 = .ok (.iload_n 3, 1) := by decide +kernel
theorem dL_law_155 : decode cL_law 155 = .ok (.iconst 1, 1) := by decide +kernel
theorem dL_law_156 : decode cL_law 156 = .ok (.iadd, 1) := by decide +kernel
theorem dL_law_157 : decode cL_law 157 = .ok (.iaload, 1) := by decide +kernel
theorem dL_law_158 : decode cL_law 158 = .ok (.invokevirtual 23, 3) := by decide +kernel
theorem dL_law_161 : decode cL_law 161 = .ok (.aload_n 2, 1) := by decide +kernel
theorem dL_law_162 : decode cL_law 162 = .ok (.aload_n 0, 1) := by decide +kernel
theorem dL_law_163 : decode cL_law 163 = .ok (.iload_n 3, 1) := by decide +kernel
theorem dL_law_164 : decode cL_law 164 = .ok (.iconst 1, 1) := by decide +kernel
theorem dL_law_165 : decode cL_law 165 = .ok (.iadd, 1) := by decide +kernel
theorem dL_law_166 : decode cL_law 166 = .ok (.iaload, 1) := by decide +kernel
theorem dL_law_167 : decode cL_law 167 = .ok (.invokevirtual 26, 3) := by decide +kernel
theorem dL_law_170 : decode cL_law 170 = .ok (.if_icmp .eq 242, 3) := by decide +kernel
theorem dL_law_173 : decode cL_law 173 = .ok (.iconst 0, 1) := by decide +kernel
theorem dL_law_174 : decode cL_law 174 = .ok (.ireturn, 1) := by decide +kernel
theorem dL_law_175 : decode cL_law 175 = .ok (.aload_n 1, 1) := by decide +kernel
theorem dL_law_176 : decode cL_law 176 = .ok (.aload_n 0, 1) := by decide +kernel
theorem dL_law_177 : decode cL_law 177 = .ok (.iload_n 3, 1) := by decide +kernel
theorem dL_law_178 : decode cL_law 178 = .ok (.iconst 1, 1) := by decide +kernel
theorem dL_law_179 : decode cL_law 179 = .ok (.iadd, 1) := by decide +kernel
theorem dL_law_180 : decode cL_law 180 = .ok (.iaload, 1) := by decide +kernel
theorem dL_law_181 : decode cL_law 181 = .ok (.aload_n 0, 1) := by decide +kernel
theorem dL_law_182 : decode cL_law 182 = .ok (.iload_n 3, 1) := by decide +kernel
theorem dL_law_183 : decode cL_law 183 = .ok (.iconst 2, 1) := by decide +kernel
theorem dL_law_184 : decode cL_law 184 = .ok (.iadd, 1) := by decide +kernel
theorem dL_law_185 : decode cL_law 185 = .ok (.iaload, 1) := by decide +kernel
theorem dL_law_186 : decode cL_law 186 = .ok (.invokevirtual 27, 3) := by decide +kernel
theorem dL_law_189 : decode cL_law 189 = .ok (.aload_n 2, 1) := by decide +kernel
theorem dL_law_190 : decode cL_law 190 = .ok (.aload_n 0, 1) := by decide +kernel
theorem dL_law_191 : decode cL_law 191 = .ok (.iload_n 3, 1) := by decide +kernel
theorem dL_law_192 : decode cL_law 192 = .ok (.iconst 1, 1) := by decide +kernel
theorem dL_law_193 : decode cL_law 193 = .ok (.iadd, 1) := by decide +kernel
theorem dL_law_194 : decode cL_law 194 = .ok (.iaload, 1) := by decide +kernel
theorem dL_law_195 : decode cL_law 195 = .ok (.aload_n 0, 1) := by decide +kernel
theorem dL_law_196 : decode cL_law 196 = .ok (.iload_n 3, 1) := by decide +kernel
theorem dL_law_197 : decode cL_law 197 = .ok (.iconst 2, 1) := by decide +kernel
theorem dL_law_198 : decode cL_law 198 = .ok (.iadd, 1) := by decide +kernel
theorem dL_law_199 : decode cL_law 199 = .ok (.iaload, 1) := by decide +kernel
theorem dL_law_200 : decode cL_law 200 = .ok (.invokevirtual 30, 3) := by decide +kernel
theorem dL_law_203 : decode cL_law 203 = .ok (.if_icmp .eq 209, 3) := by decide +kernel
theorem dL_law_206 : decode cL_law 206 = .ok (.iconst 0, 1) := by decide +kernel
theorem dL_law_207 : decode cL_law 207 = .ok (.ireturn, 1) := by decide +kernel
theorem dL_law_208 : decode cL_law 208 = .ok (.aload_n 1, 1) := by decide +kernel
theorem dL_law_209 : decode cL_law 209 = .ok (.aload_n 0, 1) := by decide +kernel
theorem dL_law_210 : decode cL_law 210 = .ok (.iload_n 3, 1) := by decide +kernel
theorem dL_law_211 : decode cL_law 211 = .ok (.iconst 1, 1) := by decide +kernel
theorem dL_law_212 : decode cL_law 212 = .ok (.iadd, 1) := by decide +kernel
theorem dL_law_213 : decode cL_law 213 = .ok (.iaload, 1) := by decide +kernel
theorem dL_law_214 : decode cL_law 214 = .ok (.aload_n 0, 1) := by decide +kernel
theorem dL_law_215 : decode cL_law 215 = .ok (.iload_n 3, 1) := by decide +kernel
theorem dL_law_216 : decode cL_law 216 = .ok (.iconst 2, 1) := by decide +kernel
theorem dL_law_217 : decode cL_law 217 = .ok (.iadd, 1) := by decide +kernel
theorem dL_law_218 : decode cL_law 218 = .ok (.iaload, 1) := by decide +kernel
theorem dL_law_219 : decode cL_law 219 = .ok (.invokevirtual 31, 3) := by decide +kernel
theorem dL_law_222 : decode cL_law 222 = .ok (.aload_n 2, 1) := by decide +kernel
theorem dL_law_223 : decode cL_law 223 = .ok (.aload_n 0, 1) := by decide +kernel
theorem dL_law_224 : decode cL_law 224 = .ok (.iload_n 3, 1) := by decide +kernel
theorem dL_law_225 : decode cL_law 225 = .ok (.iconst 1, 1) := by decide +kernel
theorem dL_law_226 : decode cL_law 226 = .ok (.iadd, 1) := by decide +kernel
theorem dL_law_227 : decode cL_law 227 = .ok (.iaload, 1) := by decide +kernel
theorem dL_law_228 : decode cL_law 228 = .ok (.aload_n 0, 1) := by decide +kernel
theorem dL_law_229 : decode cL_law 229 = .ok (.iload_n 3, 1) := by decide +kernel
theorem dL_law_230 : decode cL_law 230 = .ok (.iconst 2, 1) := by decide +kernel
theorem dL_law_231 : decode cL_law 231 = .ok (.iadd, 1) := by decide +kernel
theorem dL_law_232 : decode cL_law 232 = .ok (.iaload, 1) := by decide +kernel
theorem dL_law_233 : decode cL_law 233 = .ok (.invokevirtual 34, 3) := by decide +kernel
theorem dL_law_236 : decode cL_law 236 = .ok (.if_icmp .eq 176, 3) := by decide +kernel
theorem dL_law_239 : decode cL_law 239 = .ok (.iconst 0, 1) := by decide +kernel
theorem dL_law_240 : decode cL_law 240 = .ok (.ireturn, 1) := by decide +kernel
theorem dL_law_241 : decode cL_law 241 = .ok (.aload_n 1, 1) := by decide +kernel
theorem dL_law_242 : decode cL_law 242 = .ok (.aload_n 0, 1) := by decide +kernel
theorem dL_law_243 : decode cL_law 243 = .ok (.iload_n 3, 1) := by decide +kernel
theorem dL_law_244 : decode cL_law 244 = .ok (.iconst 1, 1) := by decide +kernel
theorem dL_law_245 : decode cL_law 245 = .ok (.iadd, 1) := by decide +kernel
theorem dL_law_246 : decode cL_law 246 = .ok (.iaload, 1) := by decide +kernel
theorem dL_law_247 : decode cL_law 247 = .ok (.invokevirtual 35, 3) := by decide +kernel
theorem dL_law_250 : decode cL_law 250 = .ok (.aload_n 2, 1) := by decide +kernel
theorem dL_law_251 : decode cL_law 251 = .ok (.aload_n 0, 1) := by decide +kernel
theorem dL_law_252 : decode cL_law 252 = .ok (.iload_n 3, 1) := by decide +kernel
theorem dL_law_253 : decode cL_law 253 = .ok (.iconst 1, 1) := by decide +kernel
theorem dL_law_254 : decode cL_law 254 = .ok (.iadd, 1) := by decide +kernel
theorem dL_law_255 : decode cL_law 255 = .ok (.iaload, 1) := by decide +kernel
theorem dL_law_256 : decode cL_law 256 = .ok (.invokevirtual 38, 3) := by decide +kernel
theorem dL_law_259 : decode cL_law 259 = .ok (.if_icmp .eq 153, 3) := by decide +kernel
theorem dL_law_262 : decode cL_law 262 = .ok (.iconst 0, 1) := by decide +kernel
theorem dL_law_263 : decode cL_law 263 = .ok (.ireturn, 1) := by decide +kernel
theorem dL_law_264 : decode cL_law 264 = .ok (.aload_n 1, 1) := by decide +kernel
theorem dL_law_265 : decode cL_law 265 = .ok (.aload_n 0, 1) := by decide +kernel
theorem dL_law_266 : decode cL_law 266 = .ok (.iload_n 3, 1) := by decide +kernel
theorem dL_law_267 : decode cL_law 267 = .ok (.iconst 1, 1) := by decide +kernel
theorem dL_law_268 : decode cL_law 268 = .ok (.iadd, 1) := by decide +kernel
theorem dL_law_269 : decode cL_law 269 = .ok (.iaload, 1) := by decide +kernel
theorem dL_law_270 : decode cL_law 270 = .ok (.invokevirtual 39, 3) := by decide +kernel
theorem dL_law_273 : decode cL_law 273 = .ok (.aload_n 2, 1) := by decide +kernel
theorem dL_law_274 : decode cL_law 274 = .ok (.aload_n 0, 1) := by decide +kernel
theorem dL_law_275 : decode cL_law 275 = .ok (.iload_n 3, 1) := by decide +kernel
theorem dL_law_276 : decode cL_law 276 = .ok (.iconst 1, 1) := by decide +kernel
theorem dL_law_277 : decode cL_law 277 = .ok (.iadd, 1) := by decide +kernel
theorem dL_law_278 : decode cL_law 278 = .ok (.iaload, 1) := by decide +kernel
theorem dL_law_279 : decode cL_law 279 = .ok (.invokevirtual 42, 3) := by decide +kernel
theorem dL_law_282 : decode cL_law 282 = .ok (.if_icmp .eq 130, 3) := by decide +kernel
theorem dL_law_285 : decode cL_law 285 = .ok (.iconst 0, 1) := by decide +kernel
theorem dL_law_286 : decode cL_law 286 = .ok (.ireturn, 1) := by decide +kernel
theorem dL_law_287 : decode cL_law 287 = .ok (.aload_n 1, 1) := by decide +kernel
theorem dL_law_288 : decode cL_law 288 = .ok (.aload_n 0, 1) := by decide +kernel
theorem dL_law_289 : decode cL_law 289 = .ok (.iload_n 3, 1) := by decide +kernel
theorem dL_law_290 : decode cL_law 290 = .ok (.iconst 1, 1) := by decide +kernel
theorem dL_law_291 : decode cL_law 291 = .ok (.iadd, 1) := by decide +kernel
theorem dL_law_292 : decode cL_law 292 = .ok (.iaload, 1) := by decide +kernel
theorem dL_law_293 : decode cL_law 293 = .ok (.invokevirtual 43, 3) := by decide +kernel
theorem dL_law_296 : decode cL_law 296 = .ok (.aload_n 2, 1) := by decide +kernel
theorem dL_law_297 : decode cL_law 297 = .ok (.aload_n 0, 1) := by decide +kernel
theorem dL_law_298 : decode cL_law 298 = .ok (.iload_n 3, 1) := by decide +kernel
theorem dL_law_299 : decode cL_law 299 = .ok (.iconst 1, 1) := by decide +kernel
theorem dL_law_300 : decode cL_law 300 = .ok (.iadd, 1) := by decide +kernel
theorem dL_law_301 : decode cL_law 301 = .ok (.iaload, 1) := by decide +kernel
theorem dL_law_302 : decode cL_law 302 = .ok (.invokevirtual 46, 3) := by decide +kernel
theorem dL_law_305 : decode cL_law 305 = .ok (.if_icmp .eq 107, 3) := by decide +kernel
theorem dL_law_308 : decode cL_law 308 = .ok (.iconst 0, 1) := by decide +kernel
theorem dL_law_309 : decode cL_law 309 = .ok (.ireturn, 1) := by decide +kernel
theorem dL_law_310 : decode cL_law 310 = .ok (.aload_n 1, 1) := by decide +kernel
theorem dL_law_311 : decode cL_law 311 = .ok (.aload_n 0, 1) := by decide +kernel
theorem dL_law_312 : decode cL_law 312 = .ok (.iload_n 3, 1) := by decide +kernel
theorem dL_law_313 : decode cL_law 313 = .ok (.iconst 1, 1) := by decide +kernel
theorem dL_law_314 : decode cL_law 314 = .ok (.iadd, 1) := by decide +kernel
theorem dL_law_315 : decode cL_law 315 = .ok (.iaload, 1) := by decide +kernel
theorem dL_law_316 : decode cL_law 316 = .ok (.invokevirtual 47, 3) := by decide +kernel
theorem dL_law_319 : decode cL_law 319 = .ok (.aload_n 2, 1) := by decide +kernel
theorem dL_law_320 : decode cL_law 320 = .ok (.aload_n 0, 1) := by decide +kernel
theorem dL_law_321 : decode cL_law 321 = .ok (.iload_n 3, 1) := by decide +kernel
theorem dL_law_322 : decode cL_law 322 = .ok (.iconst 1, 1) := by decide +kernel
theorem dL_law_323 : decode cL_law 323 = .ok (.iadd, 1) := by decide +kernel
theorem dL_law_324 : decode cL_law 324 = .ok (.iaload, 1) := by decide +kernel
theorem dL_law_325 : decode cL_law 325 = .ok (.invokevirtual 50, 3) := by decide +kernel
theorem dL_law_328 : decode cL_law 328 = .ok (.if_icmp .eq 84, 3) := by decide +kernel
theorem dL_law_331 : decode cL_law 331 = .ok (.iconst 0, 1) := by decide +kernel
theorem dL_law_332 : decode cL_law 332 = .ok (.ireturn, 1) := by decide +kernel
theorem dL_law_333 : decode cL_law 333 = .ok (.aload_n 1, 1) := by decide +kernel
theorem dL_law_334 : decode cL_law 334 = .ok (.aload_n 0, 1) := by decide +kernel
theorem dL_law_335 : decode cL_law 335 = .ok (.iload_n 3, 1) := by decide +kernel
theorem dL_law_336 : decode cL_law 336 = .ok (.iconst 1, 1) := by decide +kernel
theorem dL_law_337 : decode cL_law 337 = .ok (.iadd, 1) := by decide +kernel
theorem dL_law_338 : decode cL_law 338 = .ok (.iaload, 1) := by decide +kernel
theorem dL_law_339 : decode cL_law 339 = .ok (.invokevirtual 51, 3) := by decide +kernel
theorem dL_law_342 : decode cL_law 342 = .ok (.aload_n 2, 1) := by decide +kernel
theorem dL_law_343 : decode cL_law 343 = .ok (.aload_n 0, 1) := by decide +kernel
theorem dL_law_344 : decode cL_law 344 = .ok (.iload_n 3, 1) := by decide +kernel
theorem dL_law_345 : decode cL_law 345 = .ok (.iconst 1, 1) := by decide +kernel
theorem dL_law_346 : decode cL_law 346 = .ok (.iadd, 1) := by decide +kernel
theorem dL_law_347 : decode cL_law 347 = .ok (.iaload, 1) := by decide +kernel
theorem dL_law_348 : decode cL_law 348 = .ok (.invokevirtual 54, 3) := by decide +kernel
theorem dL_law_351 : decode cL_law 351 = .ok (.if_icmp .eq 61, 3) := by decide +kernel
theorem dL_law_354 : decode cL_law 354 = .ok (.iconst 0, 1) := by decide +kernel
theorem dL_law_355 : decode cL_law 355 = .ok (.ireturn, 1) := by decide +kernel
theorem dL_law_356 : decode cL_law 356 = .ok (.aload_n 1, 1) := by decide +kernel
theorem dL_law_357 : decode cL_law 357 = .ok (.aload_n 0, 1) := by decide +kernel
theorem dL_law_358 : decode cL_law 358 = .ok (.iload_n 3, 1) := by decide +kernel
theorem dL_law_359 : decode cL_law 359 = .ok (.iconst 1, 1) := by decide +kernel
theorem dL_law_360 : decode cL_law 360 = .ok (.iadd, 1) := by decide +kernel
theorem dL_law_361 : decode cL_law 361 = .ok (.iaload, 1) := by decide +kernel
theorem dL_law_362 : decode cL_law 362 = .ok (.aload_n 0, 1) := by decide +kernel
theorem dL_law_363 : decode cL_law 363 = .ok (.iload_n 3, 1) := by decide +kernel
theorem dL_law_364 : decode cL_law 364 = .ok (.iconst 2, 1) := by decide +kernel
theorem dL_law_365 : decode cL_law 365 = .ok (.iadd, 1) := by decide +kernel
theorem dL_law_366 : decode cL_law 366 = .ok (.iaload, 1) := by decide +kernel
theorem dL_law_367 : decode cL_law 367 = .ok (.invokevirtual 55, 3) := by decide +kernel
theorem dL_law_370 : decode cL_law 370 = .ok (.aload_n 2, 1) := by decide +kernel
theorem dL_law_371 : decode cL_law 371 = .ok (.aload_n 0, 1) := by decide +kernel
theorem dL_law_372 : decode cL_law 372 = .ok (.iload_n 3, 1) := by decide +kernel
theorem dL_law_373 : decode cL_law 373 = .ok (.iconst 1, 1) := by decide +kernel
theorem dL_law_374 : decode cL_law 374 = .ok (.iadd, 1) := by decide +kernel
theorem dL_law_375 : decode cL_law 375 = .ok (.iaload, 1) := by decide +kernel
theorem dL_law_376 : decode cL_law 376 = .ok (.aload_n 0, 1) := by decide +kernel
theorem dL_law_377 : decode cL_law 377 = .ok (.iload_n 3, 1) := by decide +kernel
theorem dL_law_378 : decode cL_law 378 = .ok (.iconst 2, 1) := by decide +kernel
theorem dL_law_379 : decode cL_law 379 = .ok (.iadd, 1) := by decide +kernel
theorem dL_law_380 : decode cL_law 380 = .ok (.iaload, 1) := by decide +kernel
theorem dL_law_381 : decode cL_law 381 = .ok (.invokevirtual 58, 3) := by decide +kernel
theorem dL_law_384 : decode cL_law 384 = .ok (.if_icmp .eq 28, 3) := by decide +kernel
theorem dL_law_387 : decode cL_law 387 = .ok (.iconst 0, 1) := by decide +kernel
theorem dL_law_388 : decode cL_law 388 = .ok (.ireturn, 1) := by decide +kernel
theorem dL_law_389 : decode cL_law 389 = .ok (.aload_n 1, 1) := by decide +kernel
theorem dL_law_390 : decode cL_law 390 = .ok (.aload_n 0, 1) := by decide +kernel
theorem dL_law_391 : decode cL_law 391 = .ok (.iload_n 3, 1) := by decide +kernel
theorem dL_law_392 : decode cL_law 392 = .ok (.iconst 1, 1) := by decide +kernel
theorem dL_law_393 : decode cL_law 393 = .ok (.iadd, 1) := by decide +kernel
theorem dL_law_394 : decode cL_law 394 = .ok (.iaload, 1) := by decide +kernel
theorem dL_law_395 : decode cL_law 395 = .ok (.invokevirtual 59, 3) := by decide +kernel
theorem dL_law_398 : decode cL_law 398 = .ok (.aload_n 2, 1) := by decide +kernel
theorem dL_law_399 : decode cL_law 399 = .ok (.aload_n 0, 1) := by decide +kernel
theorem dL_law_400 : decode cL_law 400 = .ok (.iload_n 3, 1) := by decide +kernel
theorem dL_law_401 : decode cL_law 401 = .ok (.iconst 1, 1) := by decide +kernel
theorem dL_law_402 : decode cL_law 402 = .ok (.iadd, 1) := by decide +kernel
theorem dL_law_403 : decode cL_law 403 = .ok (.iaload, 1) := by decide +kernel
theorem dL_law_404 : decode cL_law 404 = .ok (.invokevirtual 62, 3) := by decide +kernel
theorem dL_law_407 : decode cL_law 407 = .ok (.if_icmp .eq 5, 3) := by decide +kernel
theorem dL_law_410 : decode cL_law 410 = .ok (.iconst 0, 1) := by decide +kernel
theorem dL_law_411 : decode cL_law 411 = .ok (.ireturn, 1) := by decide +kernel
theorem dL_law_412 : decode cL_law 412 = .ok (.iinc 3 3, 3) := by decide +kernel
theorem dL_law_415 : decode cL_law 415 = .ok (.goto (-397), 3) := by decide +kernel
theorem dL_law_418 : decode cL_law 418 = .ok (.iconst 1, 1) := by decide +kernel
theorem dL_law_419 : decode cL_law 419 = .ok (.ireturn, 1) := by decide +kernel
end
section
/-! WALK 0: a world of one object with N arrays of 24 cells, as one function f; rows for its instructions and calls -/
abbrev vwCl : List vw_C := [(RX0, TX0, 13), (RX1, TX1, 2)]
def wz_w (ci N h : Nat) (r : Nat → Nat) (ca : Nat → ClassId) (f : pz_S) : va_W := (h, .inr (ci, (List.range N).map (fun k => Value.ref (r k)))) :: (List.range N).map (fun k => (r k, .inl (ca k, 24, .inl (f k))))
theorem wz_w0 {ci N h : Nat} {r : Nat → Nat} {ca : Nat → ClassId} {f : pz_S} : (wz_w ci N h r ca f)[0]? = some (h, .inr (ci, (List.range N).map (fun k => Value.ref (r k)))) := rfl
theorem wz_wk {ci N h k : Nat} {r : Nat → Nat} {ca : Nat → ClassId} {f : pz_S} (hk : k < N) : (wz_w ci N h r ca f)[k + 1]? = some (r k, .inl (ca k, 24, .inl (f k))) := by
  unfold wz_w
  rw [List.getElem?_cons_succ, List.getElem?_map, List.getElem?_range hk]
  rfl
theorem wz_fu_k (f : pz_S) (k i : Nat) (x : Int32) : pz_fu f k i x k = upd (f k) i x := by
  funext b
  unfold pz_fu upd
  simp
theorem wz_fu_j (f : pz_S) (k i : Nat) (x : Int32) (j : Nat) (h : j ≠ k) : pz_fu f k i x j = f j := by
  funext b
  exact pz_fu_k h
theorem wz_ws {ci N h k i : Nat} {x : Int32} {r : Nat → Nat} {ca : Nat → ClassId} {f : pz_S} (hk : k < N) : (wz_w ci N h r ca f).set (k + 1) (r k, .inl (ca k, 24, .inl (upd (f k) i x))) = wz_w ci N h r ca (pz_fu f k i x) := by
  unfold wz_w
  rw [List.set_cons_succ]
  congr 1
  apply List.ext_getElem?
  intro j
  by_cases hj : j = k
  · subst hj
    rw [List.getElem?_set_self (by simp [hk]), List.getElem?_map, List.getElem?_range hk, ← wz_fu_k]
    rfl
  · rw [List.getElem?_set_ne (Ne.symm hj), List.getElem?_map, List.getElem?_map]
    by_cases hl : j < N
    · rw [List.getElem?_range hl]
      show some _ = some _
      dsimp only
      rw [wz_fu_j f k i x j hj]
    · have : (List.range N)[j]? = none := by simp; omega
      rw [this]
      rfl
def wz_C (p : Program) (s : State) (m : MethodId) (args : Array Value) (c : Code) (cc : ByteArray) (D : va_G) (ci N : Nat) (Cn : String) (T : u_T) (ety : Nat → FieldType) (ca : Nat → ClassId) (A : Nat → Prop) : Prop :=
  p.tables.exec = Jvm.exec ∧ c.code = cc ∧ (∀ w ∈ lw_all, w.before args s = true) ∧ s.vm.findClass Cn = some m.cls ∧ va_K D vwCl ((List.range N).map (fun k => (ca k, ety k))) s ∧ (∀ q, s.heap.size ≤ q → A q) ∧ vwCl[ci]? = some (Cn, T, N) ∧ (∀ w ∈ u_ws Cn T N, w ∈ lw_all)
def wz_H (D : va_G) (ci N h : Nat) (r : Nat → Nat) (ca : Nat → ClassId) (f : pz_S) (A : Nat → Prop) (H0 H : Heap) (locs : List Loc) : Prop :=
  va_P D vwCl (wz_w ci N h r ca f) H ∧ va_D A (wz_w ci N h r ca f) ∧ va_S A H0 H locs
def wz_B (D : va_G) (ci N h : Nat) (r : Nat → Nat) (ety : Nat → FieldType) (ca : Nat → ClassId) (f : pz_S) (A : Nat → Prop) (t : State) : Prop :=
  va_P D vwCl (wz_w ci N h r ca f) t.heap ∧ va_K D vwCl ((List.range N).map (fun k => (ca k, ety k))) t ∧ va_D A (wz_w ci N h r ca f)
section
variable {p : Program} {l : Launch} {e : Env} {R : Room} {s : State} {m : MethodId} {args : Array Value} {below : List Frame} {meth : Method} {c : Code} {H : Heap} {locs : List Loc} {cells slots : Nat} {Q : State → Prop}
variable {cc : ByteArray} {pc : Nat} {ls : Array Slot} {rest : List Value} {D : va_G} {ci N h : Nat} {Cn : String} {T : u_T} {ety : Nat → FieldType} {ca : Nat → ClassId} {A : Nat → Prop} {r : Nat → Nat} {f : pz_S}
theorem wz_get (C : wz_C p s m args c cc D ci N Cn T ety ca A) (hH : wz_H D ci N h r ca f A s.heap H locs) (k : Nat) {index : Nat} (hk : k < N) (hq : Cond.fieldLink Cn index (T k).1 (T k).2.1 (T k).2.2.1 ∈ lw_all) (hdg : decode cc pc = .ok (.getfield index, 3))
    (kk : W p l e R s m args below meth c H locs cells slots Q (F0 m (pc + 3) ls (.ref (r k) :: rest))) : W p l e R s m args below meth c H locs cells slots Q (F0 m pc ls (.ref h :: rest)) := by
  obtain ⟨hx, hb, hts, hown, hK, hA, hc, hin⟩ := C
  exact va_get (ci := ci) (v := .ref (r k)) (C := Cn) (T := T) (N := N) hx hb hts hin hown hK hH.1 0 wz_w0 hc k hk (hts _ hq) (fun _ h9 => h9) (by rw [List.getElem?_map, List.getElem?_range hk]; rfl) hdg kk
/-- aload_0, getfield -/
theorem wz_fld (C : wz_C p s m args c cc D ci N Cn T ety ca A) (hH : wz_H D ci N h r ca f A s.heap H locs) {nL : Nat} {lv : List (Nat × Value)} (hl : lv_has ls nL lv) (j : Nat) (hj : lv[j]? = some (0, .ref h)) (k : Nat) {index : Nat} (hk : k < N) (hq : Cond.fieldLink Cn index (T k).1 (T k).2.1 (T k).2.2.1 ∈ lw_all) (hd0 : decode cc pc = .ok (.aload_n 0, 1)) (hd1 : decode cc (pc + 1) = .ok (.getfield index, 3))
    (kk : W p l e R s m args below meth c H locs cells slots Q (F0 m (pc + 1 + 3) ls (.ref (r k) :: rest))) : W p l e R s m args below meth c H locs cells slots Q (F0 m pc ls rest) :=
  lv_aload_n C.1 C.2.1 hd0 rfl (lv_at hl j hj) (wz_get C hH k hk hq hd1 kk)
theorem wz_tys {k : Nat} (hk : k < N) : ((List.range N).map (fun k => (ca k, ety k)))[k]? = some (ca k, ety k) := by
  rw [List.getElem?_map, List.getElem?_range hk]
  rfl
theorem wz_ld (C : wz_C p s m args c cc D ci N Cn T ety ca A) (hH : wz_H D ci N h r ca f A s.heap H locs) (k : Nat) (hk : k < N) (ht : ety k = .int) {i : Int32} {j : Nat} (hi : i = nI j) (hj : j < 24) (hdg : decode cc pc = .ok (.iaload, 1))
    (kk : W p l e R s m args below meth c H locs cells slots Q (F0 m (pc + 1) ls (.int (f k j) :: rest))) : W p l e R s m args below meth c H locs cells slots Q (F0 m pc ls (.int i :: .ref (r k) :: rest)) := by
  subst hi
  obtain ⟨hx, hb, hts, hown, hK, hA, hc, hin⟩ := C
  exact va_iald hx hb hK hH.1 (k + 1) k (wz_wk hk) (by rw [wz_tys hk, ht]) (vp_in_nI hj (by decide)) hdg (by rw [pz_cl hj]; exact kk)
theorem wz_ldz (C : wz_C p s m args c cc D ci N Cn T ety ca A) (hH : wz_H D ci N h r ca f A s.heap H locs) (k : Nat) (hk : k < N) (ht : ety k = .boolean) {i : Int32} {j : Nat} (hi : i = nI j) (hj : j < 24) (hdg : decode cc pc = .ok (.baload, 1))
    (kk : W p l e R s m args below meth c H locs cells slots Q (F0 m (pc + 1) ls (.int (f k j) :: rest))) : W p l e R s m args below meth c H locs cells slots Q (F0 m pc ls (.int i :: .ref (r k) :: rest)) := by
  subst hi
  obtain ⟨hx, hb, hts, hown, hK, hA, hc, hin⟩ := C
  exact va_zald hx hb hK hH.1 (k + 1) k (wz_wk hk) (by rw [wz_tys hk, ht]) (vp_in_nI hj (by decide)) hdg (by rw [pz_cl hj]; exact kk)
theorem wz_st (C : wz_C p s m args c cc D ci N Cn T ety ca A) (hH : wz_H D ci N h r ca f A s.heap H locs) (k : Nat) (hk : k < N) (ht : ety k = .int) {i x : Int32} {j : Nat} (hi : i = nI j) (hj : j < 24) (hdg : decode cc pc = .ok (.iastore, 1))
    (kk : ∀ (H1 : Heap) (locs1 : List Loc), wz_H D ci N h r ca (pz_fu f k j x) A s.heap H1 locs1 → W p l e R s m args below meth c H1 locs1 cells slots Q (F0 m (pc + 1) ls rest)) : W p l e R s m args below meth c H locs cells slots Q (F0 m pc ls (.int x :: .int i :: .ref (r k) :: rest)) := by
  subst hi
  obtain ⟨hx, hb, hts, hown, hK, hA, hc, hin⟩ := C
  obtain ⟨hP, hD, hS⟩ := hH
  refine va_iast hx hb hK hP hD hS (k + 1) k (wz_wk hk) (by rw [wz_tys hk, ht]) (vp_in_nI hj (by decide)) hdg (fun H1 locs1 hP1 hD1 hS1 => kk H1 locs1 ⟨?_, ?_, hS1⟩)
  · rw [pz_cl hj, wz_ws hk] at hP1
    exact hP1
  · rw [pz_cl hj, wz_ws hk] at hD1
    exact hD1
theorem wz_stz (C : wz_C p s m args c cc D ci N Cn T ety ca A) (hH : wz_H D ci N h r ca f A s.heap H locs) (k : Nat) (hk : k < N) (ht : ety k = .boolean) {i x : Int32} {j : Nat} (hi : i = nI j) (hj : j < 24) (hx1 : vp_nar .boolean x = x) (hdg : decode cc pc = .ok (.bastore, 1))
    (kk : ∀ (H1 : Heap) (locs1 : List Loc), wz_H D ci N h r ca (pz_fu f k j x) A s.heap H1 locs1 → W p l e R s m args below meth c H1 locs1 cells slots Q (F0 m (pc + 1) ls rest)) : W p l e R s m args below meth c H locs cells slots Q (F0 m pc ls (.int x :: .int i :: .ref (r k) :: rest)) := by
  subst hi
  obtain ⟨hx, hb, hts, hown, hK, hA, hc, hin⟩ := C
  obtain ⟨hP, hD, hS⟩ := hH
  refine va_zast hx hb hK hP hD hS (k + 1) k (wz_wk hk) (by rw [wz_tys hk, ht]) (vp_in_nI hj (by decide)) hdg (fun H1 locs1 hP1 hD1 hS1 => kk H1 locs1 ⟨?_, ?_, hS1⟩)
  · rw [hx1, pz_cl hj, wz_ws hk] at hP1
    exact hP1
  · rw [hx1, pz_cl hj, wz_ws hk] at hD1
    exact hD1
/-! contracts: void, int (or boolean) -/
def wz_Pc (D : va_G) (ci N h : Nat) (r : Nat → Nat) (ety : Nat → FieldType) (ca : Nat → ClassId) (f : pz_S) (As : List Value) (sz : Nat) : Array Value → State → Prop := va_Pc (.ref h :: As) (fun U => U.heap.size = sz ∧ wz_B D ci N h r ety ca f (fun _ => True) U)
def wz_Mv (l : Launch) (y : MethodName) (b : ByteArray) (L : Nat) (rm : Room) (D : va_G) (ci N h : Nat) (r : Nat → Nat) (ety : Nat → FieldType) (ca : Nat → ClassId) (f : pz_S) (As : List Value) (post : pz_S → Prop) : Prop :=
  ∀ sz, Met l y (ws_ y b L none) rm (wz_Pc D ci N h r ety ca f As sz) (va_Qv post (fun f' t => wz_B D ci N h r ety ca f' (va_A (wz_w ci N h r ca f) sz) t) (va_A (wz_w ci N h r ca f) sz)) 0 0 (va_A (wz_w ci N h r ca f) sz)
def wz_Mi (l : Launch) (y : MethodName) (b : ByteArray) (L : Nat) (rt : FieldType) (rm : Room) (D : va_G) (ci N h : Nat) (r : Nat → Nat) (ety : Nat → FieldType) (ca : Nat → ClassId) (f : pz_S) (As : List Value) (post : Int32 → pz_S → Prop) : Prop :=
  ∀ sz, Met l y (ws_ y b L (some rt)) rm (wz_Pc D ci N h r ety ca f As sz) (va_Qi post (fun f' t => wz_B D ci N h r ety ca f' (va_A (wz_w ci N h r ca f) sz) t) (va_A (wz_w ci N h r ca f) sz)) 0 0 (va_A (wz_w ci N h r ca f) sz)
abbrev wz_Qv (below : List Frame) (post : pz_S → Prop) (D : va_G) (ci N h : Nat) (r : Nat → Nat) (ety : Nat → FieldType) (ca : Nat → ClassId) (A : Nat → Prop) (args : Array Value) (s : State) : State → Prop := MQ below (va_Qv post (fun f' t => wz_B D ci N h r ety ca f' A t) A) args s 0 0 A
abbrev wz_Qi (below : List Frame) (post : Int32 → pz_S → Prop) (D : va_G) (ci N h : Nat) (r : Nat → Nat) (ety : Nat → FieldType) (ca : Nat → ClassId) (A : Nat → Prop) (args : Array Value) (s : State) : State → Prop := MQ below (va_Qi post (fun f' t => wz_B D ci N h r ety ca f' A t) A) args s 0 0 A
theorem wz_blind {As : List Value} {sz : Nat} : FrameBlind (wz_Pc D ci N h r ety ca f As sz) := by
  intro a U g mk q
  obtain ⟨q0, q1, qP, qK, qD⟩ := q
  exact ⟨q0, q1, qP, va_K.moved (u := U) (U := U.calling g mk a) (Vm.Alike.refl U.vm) qK, qD⟩
theorem wz_pre {As : List Value} (C : wz_C p s m args c cc D ci N Cn T ety ca A) (hH : wz_H D ci N h r ca f A s.heap H locs) : ∀ U : State, U.heap = H → s.WarmedH U.vm → wz_Pc D ci N h r ety ca f As H.size (Value.ref h :: As).toArray U := fun U hU hW =>
  ⟨rfl, by rw [hU], by rw [hU]; exact hH.1, va_K.moved hW.alike C.2.2.2.2.1, hH.2.1.weaken (fun _ _ _ _ => trivial)⟩
theorem wz_recv (C : wz_C p s m args c cc D ci N Cn T ety ca A) (hH : wz_H D ci N h r ca f A s.heap H locs) : ∃ cell : Cell, H[h]? = some cell ∧ cell.vm.isStatics = false ∧ s.vm.findClass Cn = some cell.cls := va_recv C.2.2.2.2.1 hH.1 C.2.2.2.2.2.2.1 wz_w0
theorem wz_own (C : wz_C p s m args c cc D ci N Cn T ety ca A) (hH : wz_H D ci N h r ca f A s.heap H locs) : ∀ q, va_A (wz_w ci N h r ca f) H.size q → A q := by
  intro q hq
  rcases hq with ⟨k, e, hk⟩ | hq
  · exact hH.2.1.2 k (q, e) hk
  · exact C.2.2.2.2.2.1 q (Nat.le_trans hH.2.2.1 hq)
/-- the end of a void method -/
theorem wz_rv {post : pz_S → Prop} (C : wz_C p s m args c cc D ci N Cn T ety ca A) (hr : meth.sig.returnType = none) (hlocks : meth.locks = false) (hH : wz_H D ci N h r ca f A s.heap H locs) (hp : post f) (hdg : decode cc pc = .ok (.return_, 1)) :
    W p l e R s m args below meth c H locs 0 0 (wz_Qv below post D ci N h r ety ca A args s) (F0 m pc ls []) :=
  W.vret C.1 C.2.1 hr (fun t ht hW => ⟨⟨f, rfl, hp, by rw [ht]; exact hH.1, va_K.moved hW.alike C.2.2.2.2.1, hH.2.1⟩, hH.2.2.F ht⟩) hH.2.2.2.2 hdg hlocks
/-- the end of an int method -/
theorem wz_ri {post : Int32 → pz_S → Prop} {v : Int32} (C : wz_C p s m args c cc D ci N Cn T ety ca A) (hr : meth.sig.returnType = some .int) (hlocks : meth.locks = false) (hH : wz_H D ci N h r ca f A s.heap H locs) (hp : post v f) (hdg : decode cc pc = .ok (.ireturn, 1)) :
    W p l e R s m args below meth c H locs 0 0 (wz_Qi below post D ci N h r ety ca A args s) (F0 m pc ls [.int v]) :=
  W.iret C.1 C.2.1 hr (fun t ht hW => ⟨⟨v, f, rfl, hp, by rw [ht]; exact hH.1, va_K.moved hW.alike C.2.2.2.2.1, hH.2.1⟩, hH.2.2.F ht⟩) hH.2.2.2.2 hdg hlocks
theorem wz_rz {post : Int32 → pz_S → Prop} {v : Int32} (C : wz_C p s m args c cc D ci N Cn T ety ca A) (hr : meth.sig.returnType = some .boolean) (hlocks : meth.locks = false) (hn : narrow .boolean (.int v) = .int v) (hH : wz_H D ci N h r ca f A s.heap H locs) (hp : post v f) (hdg : decode cc pc = .ok (.ireturn, 1)) :
    W p l e R s m args below meth c H locs 0 0 (wz_Qi below post D ci N h r ety ca A args s) (F0 m pc ls [.int v]) :=
  W.zret C.1 C.2.1 hr hn (fun t ht hW => ⟨⟨v, f, rfl, hp, by rw [ht]; exact hH.1, va_K.moved hW.alike C.2.2.2.2.1, hH.2.1⟩, hH.2.2.F ht⟩) hH.2.2.2.2 hdg hlocks
/-- a call of a void method of the same object -/
theorem wz_cv {y : MethodName} {b : ByteArray} {L nL n index : Nat} {rm : Room} {As : List Value} {post : pz_S → Prop} {st0 : List Value} (C : wz_C p s m args c cc D ci N Cn T ety ca A) (hml : c.maxLocals = nL) (hls : ls.size = nL) (hH : wz_H D ci N h r ca f A s.heap H locs) (hM : wz_Mv l y b L rm D ci N h r ety ca f As post)
    (cw : CallW R s args Cn Cn index y b L none (ws_ y b L none) rm 0 0 n) (hn : As.length = n) (hst : st0 = As.reverse ++ .ref h :: rest) (hW : (rest.map fun v => v.category).sum ≤ 8) (hdg : decode cc pc = .ok (.invokevirtual index, 3)) (hf : cells ≤ R.cells ∧ slots ≤ R.slots)
    (kk : ∀ (f' : pz_S) (H1 : Heap) (locs1 : List Loc), post f' → wz_H D ci N h r ca f' A s.heap H1 locs1 → W p l e R s m args below meth c H1 locs1 cells slots Q (F0 m (pc + 3) ls rest)) : W p l e R s m args below meth c H locs cells slots Q (F0 m pc ls st0) := by
  subst hst
  refine va_callv (va_runV (As := As) (rest := rest) ⟨C.1, C.2.1, hml, C.2.2.2.1, C.2.2.1⟩ (hM H.size) cw ⟨wz_blind, wz_recv C hH, wz_pre C hH⟩ rfl hn hls rfl (lv_room hW) hdg hf) hH.2.2 (fun q _ hq => wz_own C hH q hq) (wz_own C hH) (fun u t H1 locs1 ht hvm hw1 hB hz1 hk1 hS1 => ?_)
  obtain ⟨hP1, -, hD1⟩ := hB
  rw [ht] at hP1
  exact kk u H1 locs1 hw1 ⟨hP1, hD1.weaken (fun k q _ hq => wz_own C hH q.1 hq), hS1⟩
/-- a call of an int method of the same object -/
theorem wz_ci {y : MethodName} {b : ByteArray} {L nL n index : Nat} {rt : FieldType} {rm : Room} {As : List Value} {post : Int32 → pz_S → Prop} {st0 : List Value} (C : wz_C p s m args c cc D ci N Cn T ety ca A) (hml : c.maxLocals = nL) (hls : ls.size = nL) (hH : wz_H D ci N h r ca f A s.heap H locs) (hM : wz_Mi l y b L rt rm D ci N h r ety ca f As post)
    (cw : CallW R s args Cn Cn index y b L (some rt) (ws_ y b L (some rt)) rm 0 0 n) (hn : As.length = n) (hst : st0 = As.reverse ++ .ref h :: rest) (hW : (rest.map fun v => v.category).sum ≤ 8) (hdg : decode cc pc = .ok (.invokevirtual index, 3)) (hf : cells ≤ R.cells ∧ slots ≤ R.slots)
    (kk : ∀ (v : Int32) (f' : pz_S) (H1 : Heap) (locs1 : List Loc), post v f' → wz_H D ci N h r ca f' A s.heap H1 locs1 → W p l e R s m args below meth c H1 locs1 cells slots Q (F0 m (pc + 3) ls (.int v :: rest))) : W p l e R s m args below meth c H locs cells slots Q (F0 m pc ls st0) := by
  subst hst
  refine va_calli (va_runV (As := As) (rest := rest) ⟨C.1, C.2.1, hml, C.2.2.2.1, C.2.2.1⟩ (hM H.size) cw ⟨wz_blind, wz_recv C hH, wz_pre C hH⟩ rfl hn hls rfl (lv_room hW) hdg hf) hH.2.2 (fun q _ hq => wz_own C hH q hq) (wz_own C hH) (fun v u t H1 locs1 ht hvm hw1 hB hz1 hk1 hS1 => ?_)
  obtain ⟨hP1, -, hD1⟩ := hB
  rw [ht] at hP1
  exact kk v u H1 locs1 hw1 ⟨hP1, hD1.weaken (fun k q _ hq => wz_own C hH q.1 hq), hS1⟩
/-- a static method on one int: no world -/
def wz_Ms (l : Launch) (y : MethodName) (b : ByteArray) (L : Nat) (rm : Room) (x : Int32) (post : Int32 → Prop) : Prop :=
  ∀ sz, Met l y (ws_ y b L (some .boolean)) rm (va_Pc [.int x] (fun U => U.heap.size = sz)) (va_Qi (fun v (_ : Unit) => post v) (fun _ _ => True) (va_A [] sz)) 0 0 (va_A [] sz)
theorem wz_cs {y : MethodName} {b : ByteArray} {L nL index : Nat} {rm : Room} {x : Int32} {post : Int32 → Prop} (C : wz_C p s m args c cc D ci N Cn T ety ca A) (hml : c.maxLocals = nL) (hls : ls.size = nL) (hH : wz_H D ci N h r ca f A s.heap H locs) (hM : wz_Ms l y b L rm x post)
    (cw : CallB R s args Cn index y b L (some .boolean) (ws_ y b L (some .boolean)) rm 0 0 1 ∧ (Cond.static y).before args s = true) (hW : (rest.map fun v => v.category).sum ≤ 8) (hdg : decode cc pc = .ok (.invokestatic index, 3)) (hf : cells ≤ R.cells ∧ slots ≤ R.slots)
    (kk : ∀ (v : Int32) (H1 : Heap) (locs1 : List Loc), post v → wz_H D ci N h r ca f A s.heap H1 locs1 → W p l e R s m args below meth c H1 locs1 cells slots Q (F0 m (pc + 3) ls (.int v :: rest))) : W p l e R s m args below meth c H locs cells slots Q (F0 m pc ls (.int x :: rest)) := by
  have hA0 : ∀ q, va_A [] H.size q → A q := by
    intro q hq
    rcases hq with ⟨k, e, hk⟩ | hq
    · simp at hk
    · exact C.2.2.2.2.2.1 q (Nat.le_trans hH.2.2.1 hq)
  refine va_calli (va_runS (As := [.int x]) (rest := rest) ⟨C.1, C.2.1, hml, C.2.2.2.1, C.2.2.1⟩ (hM H.size) cw ⟨fun a U g mk q => q, fun U hU hW => ⟨rfl, by show U.heap.size = H.size; rw [hU]⟩⟩ rfl rfl hls rfl (lv_room hW) hdg hf) hH.2.2 (fun q _ hq => hA0 q hq) hA0 (fun v u t H1 locs1 ht hvm hw1 hB hz1 hk1 hS1 => ?_)
  refine kk v H1 locs1 hw1 ⟨hH.1.kept (fun k q hq => hk1 q.1 (hH.1 k q hq).lt (fun hq2 => ?_)), hH.2.1, hS1⟩
  rcases hq2 with ⟨k2, e2, hk2⟩ | hq2
  · simp at hk2
  · have := (hH.1 k q hq).lt
    omega
end
/-- how a void method's contract is begun -/
theorem wz_sv {l : Launch} {y : MethodName} {b : ByteArray} {L : Nat} {rm : Room} {D : va_G} {ci N h : Nat} {r : Nat → Nat} {ety : Nat → FieldType} {ca : Nat → ClassId} {f : pz_S} {As : List Value} {post : pz_S → Prop} {T : u_T}
    (hy : plainName y.cls = true) (hsl : (lg_sl (.ref h :: As)).length ≤ L) (hc : vwCl[ci]? = some (y.cls, T, N)) (hin : ∀ w ∈ u_ws y.cls T N, w ∈ lw_all)
    (body : ∀ (p : Program) (e : Env) (s : State) (m : MethodId) (args : Array Value) (below : List Frame) (meth : Method) (c : Code) (A : Nat → Prop) (ls : Array Slot), wz_C p s m args c b D ci N y.cls T ety ca A → meth.sig.returnType = none → meth.locks = false → c.maxLocals = L → lv_has ls L (lv_args 0 (.ref h :: As)) → wz_H D ci N h r ca f A s.heap s.heap [] →
      W p l e rm s m args below meth c s.heap [] 0 0 (wz_Qv below post D ci N h r ety ca A args s) (F0 m 0 ls [])) : wz_Mv l y b L rm D ci N h r ety ca f As post := by
  intro sz
  refine Met.ofW (cc := b) (maxL := L) (ret := none) hy rfl ?_
  intro p e s m args below meth c s₁ B hml hv
  obtain ⟨rfl, hsz, hP, hK, hD0⟩ := hv
  have hts := atoms_spec (ws := ws_ y b L none) B.pre
  have hts : ∀ w ∈ lw_all, w.before _ s = true := fun w h => hts w (List.mem_cons_of_mem _ h)
  have hown : s.vm.findClass y.cls = some m.cls := findClass_of_methodNamed B.named
  subst hsz
  have hD := hD0.self (sz := s.heap.size)
  have hl := lv_entry (.ref h :: As) (n := L) hsl
  rw [lg_entry_eq]
  exact body p e s m _ below meth c _ _ ⟨B.exec, B.bytes, hts, hown, hK, fun q h => Or.inr h, hc, hin⟩ B.returns B.notSynchronized hml hl ⟨hP, hD, va_S.rf⟩
theorem wz_si {l : Launch} {y : MethodName} {b : ByteArray} {L : Nat} {rt : FieldType} {rm : Room} {D : va_G} {ci N h : Nat} {r : Nat → Nat} {ety : Nat → FieldType} {ca : Nat → ClassId} {f : pz_S} {As : List Value} {post : Int32 → pz_S → Prop} {T : u_T}
    (hy : plainName y.cls = true) (hsl : (lg_sl (.ref h :: As)).length ≤ L) (hc : vwCl[ci]? = some (y.cls, T, N)) (hin : ∀ w ∈ u_ws y.cls T N, w ∈ lw_all)
    (body : ∀ (p : Program) (e : Env) (s : State) (m : MethodId) (args : Array Value) (below : List Frame) (meth : Method) (c : Code) (A : Nat → Prop) (ls : Array Slot), wz_C p s m args c b D ci N y.cls T ety ca A → meth.sig.returnType = some rt → meth.locks = false → c.maxLocals = L → lv_has ls L (lv_args 0 (.ref h :: As)) → wz_H D ci N h r ca f A s.heap s.heap [] →
      W p l e rm s m args below meth c s.heap [] 0 0 (wz_Qi below post D ci N h r ety ca A args s) (F0 m 0 ls [])) : wz_Mi l y b L rt rm D ci N h r ety ca f As post := by
  intro sz
  refine Met.ofW (cc := b) (maxL := L) (ret := some rt) hy rfl ?_
  intro p e s m args below meth c s₁ B hml hv
  obtain ⟨rfl, hsz, hP, hK, hD0⟩ := hv
  have hts := atoms_spec (ws := ws_ y b L (some rt)) B.pre
  have hts : ∀ w ∈ lw_all, w.before _ s = true := fun w h => hts w (List.mem_cons_of_mem _ h)
  have hown : s.vm.findClass y.cls = some m.cls := findClass_of_methodNamed B.named
  subst hsz
  have hD := hD0.self (sz := s.heap.size)
  have hl := lv_entry (.ref h :: As) (n := L) hsl
  rw [lg_entry_eq]
  exact body p e s m _ below meth c _ _ ⟨B.exec, B.bytes, hts, hown, hK, fun q h => Or.inr h, hc, hin⟩ B.returns B.notSynchronized hml hl ⟨hP, hD, va_S.rf⟩
end
section
/-! WALK 1: isNode, isTop, gatherChild, gather, paintPiece, turnPiece, handDown (printed by wip/D-64312w/gen/leaf.py) -/
def wz_e0 : Nat → FieldType := fun k => match k with
  | 9 => .boolean
  | 10 => .boolean
  | _ => .int
section
variable {p : Program} {l : Launch} {e : Env} {R : Room} {s : State} {m : MethodId} {args : Array Value} {below : List Frame} {meth : Method} {c : Code} {H : Heap} {locs : List Loc} {cells slots : Nat} {Q : State → Prop}
variable {cc : ByteArray} {pc : Nat} {ls : Array Slot} {rest : List Value} {D : va_G} {ci N h : Nat} {Cn : String} {T : u_T} {ety : Nat → FieldType} {ca : Nat → ClassId} {A : Nat → Prop} {r : Nat → Nat} {f : pz_S}
theorem wz_ldv {v : Int32} (C : wz_C p s m args c cc D ci N Cn T ety ca A) (hH : wz_H D ci N h r ca f A s.heap H locs) (k : Nat) (hk : k < N) (ht : ety k = .int) {i : Int32} {j : Nat} (hi : i = nI j) (hj : j < 24) (hv : f k j = v) (hdg : decode cc pc = .ok (.iaload, 1))
    (kk : W p l e R s m args below meth c H locs cells slots Q (F0 m (pc + 1) ls (.int v :: rest))) : W p l e R s m args below meth c H locs cells slots Q (F0 m pc ls (.int i :: .ref (r k) :: rest)) :=
  wz_ld C hH k hk ht hi hj hdg (by rw [hv]; exact kk)
theorem wz_ldvz {v : Int32} (C : wz_C p s m args c cc D ci N Cn T ety ca A) (hH : wz_H D ci N h r ca f A s.heap H locs) (k : Nat) (hk : k < N) (ht : ety k = .boolean) {i : Int32} {j : Nat} (hi : i = nI j) (hj : j < 24) (hv : f k j = v) (hdg : decode cc pc = .ok (.baload, 1))
    (kk : W p l e R s m args below meth c H locs cells slots Q (F0 m (pc + 1) ls (.int v :: rest))) : W p l e R s m args below meth c H locs cells slots Q (F0 m pc ls (.int i :: .ref (r k) :: rest)) :=
  wz_ldz C hH k hk ht hi hj hdg (by rw [hv]; exact kk)
end
/-- how a static method on one int is begun -/
theorem wz_ss {l : Launch} {y : MethodName} {b : ByteArray} {L : Nat} {rm : Room} {x : Int32} {post : Int32 → Prop} (hy : plainName y.cls = true) (hsl : (lg_sl [.int x]).length ≤ L)
    (body : ∀ (p : Program) (e : Env) (s : State) (m : MethodId) (args : Array Value) (below : List Frame) (meth : Method) (c : Code) (ls : Array Slot), p.tables.exec = Jvm.exec → c.code = b → meth.sig.returnType = some .boolean → meth.locks = false → lv_has ls L (lv_args 0 [.int x]) → (∀ (ls : Array Slot) (pc : Nat) (v : Int32), narrow .boolean (.int v) = .int v → decode b pc = .ok (.ireturn, 1) → post v → W p l e rm s m args below meth c s.heap [] 0 0 (MQ below (va_Qi (fun v (_ : Unit) => post v) (fun _ _ => True) (va_A [] s.heap.size)) args s 0 0 (va_A [] s.heap.size)) (F0 m pc ls [.int v])) →
      W p l e rm s m args below meth c s.heap [] 0 0 (MQ below (va_Qi (fun v (_ : Unit) => post v) (fun _ _ => True) (va_A [] s.heap.size)) args s 0 0 (va_A [] s.heap.size)) (F0 m 0 ls [])) : wz_Ms l y b L rm x post := by
  intro sz
  refine Met.ofW (cc := b) (maxL := L) (ret := some .boolean) hy rfl ?_
  intro p e s m args below meth c s₁ B hml hv
  obtain ⟨rfl, hsz⟩ := hv
  have hsz : s.heap.size = sz := hsz
  subst hsz
  have hl := lv_entry [.int x] (n := L) hsl
  rw [lg_entry_eq]
  have hlocks := B.notSynchronized
  exact body p e s m _ below meth c _ B.exec B.bytes B.returns hlocks hl (fun ls pc v hn hd hp => W.zret B.exec B.bytes B.returns hn (fun t ht hW => ⟨⟨v, (), rfl, hp, trivial⟩, va_S.rf.F ht⟩) (fun q hq => by cases hq) hd hlocks)
theorem wz_isn {x : Int32} (h0 : ¬ x < 0) (h1 : ¬ 23 < x) : ∃ j : Nat, j < 24 ∧ x = nI j := by
  rcases pk_ix x (n := 24) (by decide) with h | h | h
  · exact absurd h h0
  · exact absurd (Int32.lt_of_lt_of_le (show (23 : Int32) < nI 24 by decide) h) h1
  · exact h
theorem wz_isn0 {x : Int32} (h0 : x < 0) : ∀ j, j < 24 → x ≠ nI j := fun j hj e => pz_nlt hj (by rw [← e]; exact h0)
theorem wz_isn1 {x : Int32} (h0 : 23 < x) : ∀ j, j < 24 → x ≠ nI j := fun j hj e => by
  subst e
  exact nI_nlt (a := 23) (b := j) (by omega) (by decide) h0

set_option maxHeartbeats 4000000 in
set_option maxRecDepth 100000 in
/-- isNode -/
theorem wz_isNode {l : Launch} {x : Int32} : wz_Ms l yX0_isNode cX0_isNode 1 ({ frames := 0, cells := 0, slots := 0, locals := 0 } : Room) x (fun v => (v = 1 ∧ ∃ j : Nat, j < 24 ∧ x = nI j) ∨ (v = 0 ∧ ∀ j, j < 24 → x ≠ nI j)) := by
  refine wz_ss (by decide) (Nat.le_of_ble_eq_true rfl) ?_
  intro p e s m args below meth c ls hx hb hr hlocks hl end_
  have hl : lv_has ls 1 [(0, .int x)] := hl
  refine lv_iload_n hx hb dX0_isNode_0 rfl (lv_at hl 0 rfl) ?_
  refine lv_if_lt (tgt := 14) hx hb dX0_isNode_1 (by decide) (fun c1 => ?_) (fun c1 => ?_)
  · have hres := wz_isn0 c1
    refine lv_iconst (v := 0) hx hb dX0_isNode_14 (by decide) ?_
    exact end_ _ _ 0 rfl dX0_isNode_15 (Or.inr ⟨rfl, hres⟩)
  · refine lv_iload_n hx hb dX0_isNode_4 rfl (lv_at hl 0 rfl) ?_
    refine lv_bipush (v := 23) hx hb dX0_isNode_5 (by decide) ?_
    refine lv_icmp_gt (tgt := 14) hx hb dX0_isNode_7 (by decide) (fun c7 => ?_) (fun c7 => ?_)
    · have hres := wz_isn1 c7
      refine lv_iconst (v := 0) hx hb dX0_isNode_14 (by decide) ?_
      exact end_ _ _ 0 rfl dX0_isNode_15 (Or.inr ⟨rfl, hres⟩)
    · have hres := wz_isn c1 c7
      refine lv_iconst (v := 1) hx hb dX0_isNode_10 (by decide) ?_
      refine lv_goto (tgt := 15) hx hb dX0_isNode_11 (by decide) ?_
      exact end_ _ _ 1 rfl dX0_isNode_15 (Or.inl ⟨rfl, hres⟩)

set_option maxHeartbeats 4000000 in
set_option maxRecDepth 100000 in
/-- isTop -/
theorem wz_isTop {l : Launch} {D : va_G} {h : Nat} {r : Nat → Nat} {ca : Nat → ClassId} {f : pz_S} {n : Nat} (hn : n < 24) (hP : pz_P (f 2 n)) : wz_Mi l yX0_isTop cX0_isTop 3 .boolean ({ frames := 0, cells := 0, slots := 0, locals := 0 } : Room) D 0 13 h r wz_e0 ca f [.int (nI n)] (fun v f' => f' = f ∧ ((v = 1 ∧ pz_tp f n) ∨ (v = 0 ∧ ¬ pz_tp f n))) := by
  refine wz_si (T := TX0) (by decide) (Nat.le_of_ble_eq_true rfl) rfl in_X0 ?_
  intro p e s m args below meth c A ls C hr hlocks hml hl hH
  have C : wz_C p s m args c cX0_isTop D 0 13 RX0 TX0 wz_e0 ca A := C
  have hx := C.1
  have hb := C.2.1
  have hts := C.2.2.1
  have hl : lv_has ls 3 [(0, .ref h), (1, .int (nI n))] := hl
  refine wz_fld C hH hl 0 rfl 2 (by decide) q23 dX0_isTop_0 dX0_isTop_1 ?_
  refine lv_iload_n hx hb dX0_isTop_4 rfl (lv_at hl 1 rfl) ?_
  refine wz_ld C hH 2 (by decide) rfl rfl hn dX0_isTop_5 ?_
  refine lv_istore_n (lv' := [(2, .int (f 2 n)), (0, .ref h), (1, .int (nI n))]) hx hb dX0_isTop_6 rfl hl (by decide) rfl (fun ls hl => ?_)
  refine lv_iload_n hx hb dX0_isTop_7 rfl (lv_at hl 0 rfl) ?_
  refine lv_if_lt (tgt := 31) hx hb dX0_isTop_8 (by decide) (fun c8 => ?_) (fun c8 => ?_)
  · have hres : pz_tp f n := fun p hp e _ => pz_nlt hp (by rw [← e]; exact c8)
    refine lv_iconst (v := 1) hx hb dX0_isTop_31 (by decide) ?_
    refine lv_goto (tgt := 36) hx hb dX0_isTop_32 (by decide) ?_
    exact wz_rz C hr hlocks rfl hH ⟨rfl, Or.inl ⟨rfl, hres⟩⟩ dX0_isTop_36
  · obtain ⟨a, ha, ea⟩ := pz_P_ge hP c8
    refine wz_fld C hH hl 1 rfl 0 (by decide) q21 dX0_isTop_11 dX0_isTop_12 ?_
    refine lv_iload_n hx hb dX0_isTop_15 rfl (lv_at hl 0 rfl) ?_
    refine wz_ld C hH 0 (by decide) rfl ea ha dX0_isTop_16 ?_
    refine lv_iload_n hx hb dX0_isTop_17 rfl (lv_at hl 2 rfl) ?_
    refine lv_icmp_eq (tgt := 35) hx hb dX0_isTop_18 (by decide) (fun c18 => ?_) (fun c18 => ?_)
    · have hres : ¬ pz_tp f n := fun t => t a ha ea (Or.inl c18)
      refine lv_iconst (v := 0) hx hb dX0_isTop_35 (by decide) ?_
      exact wz_rz C hr hlocks rfl hH ⟨rfl, Or.inr ⟨rfl, hres⟩⟩ dX0_isTop_36
    · refine wz_fld C hH hl 1 rfl 1 (by decide) q22 dX0_isTop_21 dX0_isTop_22 ?_
      refine lv_iload_n hx hb dX0_isTop_25 rfl (lv_at hl 0 rfl) ?_
      refine wz_ld C hH 1 (by decide) rfl ea ha dX0_isTop_26 ?_
      refine lv_iload_n hx hb dX0_isTop_27 rfl (lv_at hl 2 rfl) ?_
      refine lv_icmp_eq (tgt := 35) hx hb dX0_isTop_28 (by decide) (fun c28 => ?_) (fun c28 => ?_)
      · have hres : ¬ pz_tp f n := fun t => t a ha ea (Or.inr c28)
        refine lv_iconst (v := 0) hx hb dX0_isTop_35 (by decide) ?_
        exact wz_rz C hr hlocks rfl hH ⟨rfl, Or.inr ⟨rfl, hres⟩⟩ dX0_isTop_36
      · have hres : pz_tp f n := fun p hp e h => h.elim (fun z => c18 (by rw [pz_inj ha hp (ea.symm.trans e)]; exact z)) (fun z => c28 (by rw [pz_inj ha hp (ea.symm.trans e)]; exact z))
        refine lv_iconst (v := 1) hx hb dX0_isTop_31 (by decide) ?_
        refine lv_goto (tgt := 36) hx hb dX0_isTop_32 (by decide) ?_
        exact wz_rz C hr hlocks rfl hH ⟨rfl, Or.inl ⟨rfl, hres⟩⟩ dX0_isTop_36

set_option maxHeartbeats 4000000 in
set_option maxRecDepth 100000 in
/-- gatherChild -/
theorem wz_gatherChild {l : Launch} {D : va_G} {h : Nat} {r : Nat → Nat} {ca : Nat → ClassId} {f : pz_S} {n : Nat} {x : Int32} (hn : n < 24) (hP : pz_P x) : wz_Mv l yX0_gatherChild cX0_gatherChild 3 ({ frames := 0, cells := 0, slots := 0, locals := 0 } : Room) D 0 13 h r wz_e0 ca f [.int (nI n), .int x] (fun f' => f' = pz_gc f n x) := by
  unfold pz_gc
  refine wz_sv (T := TX0) (by decide) (Nat.le_of_ble_eq_true rfl) rfl in_X0 ?_
  intro p e s m args below meth c A ls C hr hlocks hml hl hH
  have C : wz_C p s m args c cX0_gatherChild D 0 13 RX0 TX0 wz_e0 ca A := C
  have hx := C.1
  have hb := C.2.1
  have hts := C.2.2.1
  have hl : lv_has ls 3 [(0, .ref h), (1, .int (nI n)), (2, .int x)] := hl
  refine lv_iload_n hx hb dX0_gatherChild_0 rfl (lv_at hl 2 rfl) ?_
  refine lv_if_lt (tgt := 85) hx hb dX0_gatherChild_1 (by decide) (fun c1 => ?_) (fun c1 => ?_)
  · exact wz_rv C hr hlocks hH (by rw [if_pos c1]) dX0_gatherChild_85
  · obtain ⟨k, hk, ek⟩ := pz_P_ge hP c1
    refine wz_fld C hH hl 0 rfl 4 (by decide) q25 dX0_gatherChild_4 dX0_gatherChild_5 ?_
    refine lv_iload_n hx hb dX0_gatherChild_8 rfl (lv_at hl 1 rfl) ?_
    refine lv_dup2_11 hx hb dX0_gatherChild_9 rfl rfl ?_
    refine wz_ld C hH 4 (by decide) rfl rfl hn dX0_gatherChild_10 ?_
    refine wz_fld C hH hl 0 rfl 4 (by decide) q25 dX0_gatherChild_11 dX0_gatherChild_12 ?_
    refine lv_iload_n hx hb dX0_gatherChild_15 rfl (lv_at hl 2 rfl) ?_
    refine wz_ld C hH 4 (by decide) rfl ek hk dX0_gatherChild_16 ?_
    refine lv_iadd hx hb dX0_gatherChild_17 ?_
    refine wz_st C hH 4 (by decide) rfl rfl hn dX0_gatherChild_18 (fun H locs hH => ?_)
    refine wz_fld C hH hl 0 rfl 5 (by decide) q26 dX0_gatherChild_19 dX0_gatherChild_20 ?_
    refine lv_iload_n hx hb dX0_gatherChild_23 rfl (lv_at hl 1 rfl) ?_
    refine lv_dup2_11 hx hb dX0_gatherChild_24 rfl rfl ?_
    refine wz_ldv (v := (f 5 n)) C hH 5 (by decide) rfl rfl hn (by rw [pz_fu_k (by decide)]) dX0_gatherChild_25 ?_
    refine wz_fld C hH hl 0 rfl 5 (by decide) q26 dX0_gatherChild_26 dX0_gatherChild_27 ?_
    refine lv_iload_n hx hb dX0_gatherChild_30 rfl (lv_at hl 2 rfl) ?_
    refine wz_ldv (v := (f 5 k)) C hH 5 (by decide) rfl ek hk (by rw [pz_fu_k (by decide)]) dX0_gatherChild_31 ?_
    refine lv_iadd hx hb dX0_gatherChild_32 ?_
    refine wz_st C hH 5 (by decide) rfl rfl hn dX0_gatherChild_33 (fun H locs hH => ?_)
    refine wz_fld C hH hl 0 rfl 6 (by decide) q27 dX0_gatherChild_34 dX0_gatherChild_35 ?_
    refine lv_iload_n hx hb dX0_gatherChild_38 rfl (lv_at hl 1 rfl) ?_
    refine wz_fld C hH hl 0 rfl 6 (by decide) q27 dX0_gatherChild_39 dX0_gatherChild_40 ?_
    refine lv_iload_n hx hb dX0_gatherChild_43 rfl (lv_at hl 2 rfl) ?_
    refine wz_ldv (v := (f 6 k)) C hH 6 (by decide) rfl ek hk (by rw [pz_fu_k (by decide), pz_fu_k (by decide)]) dX0_gatherChild_44 ?_
    refine wz_fld C hH hl 0 rfl 6 (by decide) q27 dX0_gatherChild_45 dX0_gatherChild_46 ?_
    refine lv_iload_n hx hb dX0_gatherChild_49 rfl (lv_at hl 1 rfl) ?_
    refine wz_ldv (v := (f 6 n)) C hH 6 (by decide) rfl rfl hn (by rw [pz_fu_k (by decide), pz_fu_k (by decide)]) dX0_gatherChild_50 ?_
    refine lv_icmp_ge (tgt := 63) hx hb dX0_gatherChild_51 (by decide) (fun c51 => ?_) (fun c51 => ?_)
    · have c51' : ¬ f 6 k < f 6 n := Int32.not_lt.mpr c51
      refine wz_fld C hH hl 0 rfl 6 (by decide) q27 dX0_gatherChild_63 dX0_gatherChild_64 ?_
      refine lv_iload_n hx hb dX0_gatherChild_67 rfl (lv_at hl 1 rfl) ?_
      refine wz_ldv (v := (f 6 n)) C hH 6 (by decide) rfl rfl hn (by rw [pz_fu_k (by decide), pz_fu_k (by decide)]) dX0_gatherChild_68 ?_
      refine wz_st C hH 6 (by decide) rfl rfl hn dX0_gatherChild_69 (fun H locs hH => ?_)
      refine wz_fld C hH hl 0 rfl 7 (by decide) q28 dX0_gatherChild_70 dX0_gatherChild_71 ?_
      refine lv_iload_n hx hb dX0_gatherChild_74 rfl (lv_at hl 1 rfl) ?_
      refine lv_dup2_11 hx hb dX0_gatherChild_75 rfl rfl ?_
      refine wz_ldv (v := (f 7 n)) C hH 7 (by decide) rfl rfl hn (by rw [pz_fu_k (by decide), pz_fu_k (by decide), pz_fu_k (by decide)]) dX0_gatherChild_76 ?_
      refine wz_fld C hH hl 0 rfl 7 (by decide) q28 dX0_gatherChild_77 dX0_gatherChild_78 ?_
      refine lv_iload_n hx hb dX0_gatherChild_81 rfl (lv_at hl 2 rfl) ?_
      refine wz_ldv (v := (f 7 k)) C hH 7 (by decide) rfl ek hk (by rw [pz_fu_k (by decide), pz_fu_k (by decide), pz_fu_k (by decide)]) dX0_gatherChild_82 ?_
      refine lv_iadd hx hb dX0_gatherChild_83 ?_
      refine wz_st C hH 7 (by decide) rfl rfl hn dX0_gatherChild_84 (fun H locs hH => ?_)
      refine wz_rv C hr hlocks hH ?_ dX0_gatherChild_85
      rw [if_neg c1, ek, pz_cl hk, if_neg c51']
    · have c51' : f 6 k < f 6 n := Int32.not_le.mp c51
      refine wz_fld C hH hl 0 rfl 6 (by decide) q27 dX0_gatherChild_54 dX0_gatherChild_55 ?_
      refine lv_iload_n hx hb dX0_gatherChild_58 rfl (lv_at hl 2 rfl) ?_
      refine wz_ldv (v := (f 6 k)) C hH 6 (by decide) rfl ek hk (by rw [pz_fu_k (by decide), pz_fu_k (by decide)]) dX0_gatherChild_59 ?_
      refine lv_goto (tgt := 69) hx hb dX0_gatherChild_60 (by decide) ?_
      refine wz_st C hH 6 (by decide) rfl rfl hn dX0_gatherChild_69 (fun H locs hH => ?_)
      refine wz_fld C hH hl 0 rfl 7 (by decide) q28 dX0_gatherChild_70 dX0_gatherChild_71 ?_
      refine lv_iload_n hx hb dX0_gatherChild_74 rfl (lv_at hl 1 rfl) ?_
      refine lv_dup2_11 hx hb dX0_gatherChild_75 rfl rfl ?_
      refine wz_ldv (v := (f 7 n)) C hH 7 (by decide) rfl rfl hn (by rw [pz_fu_k (by decide), pz_fu_k (by decide), pz_fu_k (by decide)]) dX0_gatherChild_76 ?_
      refine wz_fld C hH hl 0 rfl 7 (by decide) q28 dX0_gatherChild_77 dX0_gatherChild_78 ?_
      refine lv_iload_n hx hb dX0_gatherChild_81 rfl (lv_at hl 2 rfl) ?_
      refine wz_ldv (v := (f 7 k)) C hH 7 (by decide) rfl ek hk (by rw [pz_fu_k (by decide), pz_fu_k (by decide), pz_fu_k (by decide)]) dX0_gatherChild_82 ?_
      refine lv_iadd hx hb dX0_gatherChild_83 ?_
      refine wz_st C hH 7 (by decide) rfl rfl hn dX0_gatherChild_84 (fun H locs hH => ?_)
      refine wz_rv C hr hlocks hH ?_ dX0_gatherChild_85
      rw [if_neg c1, ek, pz_cl hk, if_pos c51']

set_option maxHeartbeats 4000000 in
set_option maxRecDepth 100000 in
/-- gather -/
theorem wz_gather {l : Launch} {D : va_G} {h : Nat} {r : Nat → Nat} {ca : Nat → ClassId} {f : pz_S} {n : Nat} (hn : n < 24) (h0 : pz_P (f 0 n)) (h1 : pz_P (f 1 n)) : wz_Mv l yX0_gather cX0_gather 2 ({ frames := 1, cells := 0, slots := 0, locals := 22 } : Room) D 0 13 h r wz_e0 ca f [.int (nI n)] (fun f' => f' = pz_gth f n) := by
  refine wz_sv (T := TX0) (by decide) (Nat.le_of_ble_eq_true rfl) rfl in_X0 ?_
  intro p e s m args below meth c A ls C hr hlocks hml hl hH
  have C : wz_C p s m args c cX0_gather D 0 13 RX0 TX0 wz_e0 ca A := C
  have hx := C.1
  have hb := C.2.1
  have hts := C.2.2.1
  have hl : lv_has ls 2 [(0, .ref h), (1, .int (nI n))] := hl
  refine wz_fld C hH hl 0 rfl 4 (by decide) q25 dX0_gather_0 dX0_gather_1 ?_
  refine lv_iload_n hx hb dX0_gather_4 rfl (lv_at hl 1 rfl) ?_
  refine lv_iconst (v := 1) hx hb dX0_gather_5 (by decide) ?_
  refine wz_st C hH 4 (by decide) rfl rfl hn dX0_gather_6 (fun H locs hH => ?_)
  refine wz_fld C hH hl 0 rfl 5 (by decide) q26 dX0_gather_7 dX0_gather_8 ?_
  refine lv_iload_n hx hb dX0_gather_11 rfl (lv_at hl 1 rfl) ?_
  refine wz_fld C hH hl 0 rfl 3 (by decide) q24 dX0_gather_12 dX0_gather_13 ?_
  refine lv_iload_n hx hb dX0_gather_16 rfl (lv_at hl 1 rfl) ?_
  refine wz_ldv (v := (f 3 n)) C hH 3 (by decide) rfl rfl hn (by rw [pz_fu_k (by decide)]) dX0_gather_17 ?_
  refine wz_st C hH 5 (by decide) rfl rfl hn dX0_gather_18 (fun H locs hH => ?_)
  refine wz_fld C hH hl 0 rfl 6 (by decide) q27 dX0_gather_19 dX0_gather_20 ?_
  refine lv_iload_n hx hb dX0_gather_23 rfl (lv_at hl 1 rfl) ?_
  refine wz_fld C hH hl 0 rfl 3 (by decide) q24 dX0_gather_24 dX0_gather_25 ?_
  refine lv_iload_n hx hb dX0_gather_28 rfl (lv_at hl 1 rfl) ?_
  refine wz_ldv (v := (f 3 n)) C hH 3 (by decide) rfl rfl hn (by rw [pz_fu_k (by decide), pz_fu_k (by decide)]) dX0_gather_29 ?_
  refine wz_st C hH 6 (by decide) rfl rfl hn dX0_gather_30 (fun H locs hH => ?_)
  refine wz_fld C hH hl 0 rfl 7 (by decide) q28 dX0_gather_31 dX0_gather_32 ?_
  refine lv_iload_n hx hb dX0_gather_35 rfl (lv_at hl 1 rfl) ?_
  refine wz_fld C hH hl 0 rfl 3 (by decide) q24 dX0_gather_36 dX0_gather_37 ?_
  refine lv_iload_n hx hb dX0_gather_40 rfl (lv_at hl 1 rfl) ?_
  refine wz_ldv (v := (f 3 n)) C hH 3 (by decide) rfl rfl hn (by rw [pz_fu_k (by decide), pz_fu_k (by decide), pz_fu_k (by decide)]) dX0_gather_41 ?_
  refine wz_fld C hH hl 0 rfl 8 (by decide) q29 dX0_gather_42 dX0_gather_43 ?_
  refine lv_iload_n hx hb dX0_gather_46 rfl (lv_at hl 1 rfl) ?_
  refine wz_ldv (v := (f 8 n)) C hH 8 (by decide) rfl rfl hn (by rw [pz_fu_k (by decide), pz_fu_k (by decide), pz_fu_k (by decide)]) dX0_gather_47 ?_
  refine lv_iadd hx hb dX0_gather_48 ?_
  refine wz_st C hH 7 (by decide) rfl rfl hn dX0_gather_49 (fun H locs hH => ?_)
  have hH : wz_H D 0 13 h r ca (pz_g0 f n) A s.heap H locs := hH
  refine lv_aload_n hx hb dX0_gather_50 rfl (lv_at hl 0 rfl) ?_
  refine lv_iload_n hx hb dX0_gather_51 rfl (lv_at hl 1 rfl) ?_
  refine wz_fld C hH hl 0 rfl 0 (by decide) q21 dX0_gather_52 dX0_gather_53 ?_
  refine lv_iload_n hx hb dX0_gather_56 rfl (lv_at hl 1 rfl) ?_
  refine wz_ldv (v := (f 0 n)) C hH 0 (by decide) rfl rfl hn (pz_g0_k (by decide) (by decide) (by decide) (by decide)) dX0_gather_57 ?_
  refine wz_cv C hml hl.1 hH (wz_gatherChild (f := (pz_g0 f n)) hn h0) (cwV 2 hts (lw_V q106 q108 qs8 q11 q109) rfl rfl rfl (by decide +kernel) ⟨Nat.le_of_ble_eq_true rfl, Nat.le_of_ble_eq_true rfl⟩) rfl rfl (Nat.le_of_ble_eq_true rfl) dX0_gather_58 ⟨Nat.zero_le _, Nat.zero_le _⟩ (fun F H locs hp hH => ?_)
  subst hp
  refine lv_aload_n hx hb dX0_gather_61 rfl (lv_at hl 0 rfl) ?_
  refine lv_iload_n hx hb dX0_gather_62 rfl (lv_at hl 1 rfl) ?_
  refine wz_fld C hH hl 0 rfl 1 (by decide) q22 dX0_gather_63 dX0_gather_64 ?_
  refine lv_iload_n hx hb dX0_gather_67 rfl (lv_at hl 1 rfl) ?_
  refine wz_ldv (v := (f 1 n)) C hH 1 (by decide) rfl rfl hn (by rw [pz_gc_k (by decide) (by decide) (by decide) (by decide), pz_g0_k (by decide) (by decide) (by decide) (by decide)]) dX0_gather_68 ?_
  refine wz_cv C hml hl.1 hH (wz_gatherChild (f := (pz_gc (pz_g0 f n) n (f 0 n))) hn h1) (cwV 2 hts (lw_V q106 q108 qs8 q11 q109) rfl rfl rfl (by decide +kernel) ⟨Nat.le_of_ble_eq_true rfl, Nat.le_of_ble_eq_true rfl⟩) rfl rfl (Nat.le_of_ble_eq_true rfl) dX0_gather_69 ⟨Nat.zero_le _, Nat.zero_le _⟩ (fun F H locs hp hH => ?_)
  subst hp
  exact wz_rv C hr hlocks hH (rfl) dX0_gather_72

set_option maxHeartbeats 4000000 in
set_option maxRecDepth 100000 in
/-- paintPiece -/
theorem wz_paintPiece {l : Launch} {D : va_G} {h : Nat} {r : Nat → Nat} {ca : Nat → ClassId} {f : pz_S} {n : Nat} {x : Int32} (hn : n < 24) : wz_Mv l yX0_paintPiece cX0_paintPiece 3 ({ frames := 0, cells := 0, slots := 0, locals := 0 } : Room) D 0 13 h r wz_e0 ca f [.int (nI n), .int x] (fun f' => f' = pz_pp f n x) := by
  refine wz_sv (T := TX0) (by decide) (Nat.le_of_ble_eq_true rfl) rfl in_X0 ?_
  intro p e s m args below meth c A ls C hr hlocks hml hl hH
  have C : wz_C p s m args c cX0_paintPiece D 0 13 RX0 TX0 wz_e0 ca A := C
  have hx := C.1
  have hb := C.2.1
  have hts := C.2.2.1
  have hl : lv_has ls 3 [(0, .ref h), (1, .int (nI n)), (2, .int x)] := hl
  refine wz_fld C hH hl 0 rfl 7 (by decide) q28 dX0_paintPiece_0 dX0_paintPiece_1 ?_
  refine lv_iload_n hx hb dX0_paintPiece_4 rfl (lv_at hl 1 rfl) ?_
  refine lv_dup2_11 hx hb dX0_paintPiece_5 rfl rfl ?_
  refine wz_ld C hH 7 (by decide) rfl rfl hn dX0_paintPiece_6 ?_
  refine wz_fld C hH hl 0 rfl 4 (by decide) q25 dX0_paintPiece_7 dX0_paintPiece_8 ?_
  refine lv_iload_n hx hb dX0_paintPiece_11 rfl (lv_at hl 1 rfl) ?_
  refine wz_ld C hH 4 (by decide) rfl rfl hn dX0_paintPiece_12 ?_
  refine lv_iload_n hx hb dX0_paintPiece_13 rfl (lv_at hl 2 rfl) ?_
  refine lv_imul hx hb dX0_paintPiece_14 ?_
  refine wz_fld C hH hl 0 rfl 5 (by decide) q26 dX0_paintPiece_15 dX0_paintPiece_16 ?_
  refine lv_iload_n hx hb dX0_paintPiece_19 rfl (lv_at hl 1 rfl) ?_
  refine wz_ld C hH 5 (by decide) rfl rfl hn dX0_paintPiece_20 ?_
  refine lv_isub hx hb dX0_paintPiece_21 ?_
  refine lv_iadd hx hb dX0_paintPiece_22 ?_
  refine wz_st C hH 7 (by decide) rfl rfl hn dX0_paintPiece_23 (fun H locs hH => ?_)
  refine wz_fld C hH hl 0 rfl 5 (by decide) q26 dX0_paintPiece_24 dX0_paintPiece_25 ?_
  refine lv_iload_n hx hb dX0_paintPiece_28 rfl (lv_at hl 1 rfl) ?_
  refine wz_fld C hH hl 0 rfl 4 (by decide) q25 dX0_paintPiece_29 dX0_paintPiece_30 ?_
  refine lv_iload_n hx hb dX0_paintPiece_33 rfl (lv_at hl 1 rfl) ?_
  refine wz_ldv (v := (f 4 n)) C hH 4 (by decide) rfl rfl hn (by rw [pz_fu_k (by decide)]) dX0_paintPiece_34 ?_
  refine lv_iload_n hx hb dX0_paintPiece_35 rfl (lv_at hl 2 rfl) ?_
  refine lv_imul hx hb dX0_paintPiece_36 ?_
  refine wz_st C hH 5 (by decide) rfl rfl hn dX0_paintPiece_37 (fun H locs hH => ?_)
  refine wz_fld C hH hl 0 rfl 6 (by decide) q27 dX0_paintPiece_38 dX0_paintPiece_39 ?_
  refine lv_iload_n hx hb dX0_paintPiece_42 rfl (lv_at hl 1 rfl) ?_
  refine lv_iload_n hx hb dX0_paintPiece_43 rfl (lv_at hl 2 rfl) ?_
  refine wz_st C hH 6 (by decide) rfl rfl hn dX0_paintPiece_44 (fun H locs hH => ?_)
  refine wz_fld C hH hl 0 rfl 3 (by decide) q24 dX0_paintPiece_45 dX0_paintPiece_46 ?_
  refine lv_iload_n hx hb dX0_paintPiece_49 rfl (lv_at hl 1 rfl) ?_
  refine lv_iload_n hx hb dX0_paintPiece_50 rfl (lv_at hl 2 rfl) ?_
  refine wz_st C hH 3 (by decide) rfl rfl hn dX0_paintPiece_51 (fun H locs hH => ?_)
  refine wz_fld C hH hl 0 rfl 10 (by decide) q31 dX0_paintPiece_52 dX0_paintPiece_53 ?_
  refine lv_iload_n hx hb dX0_paintPiece_56 rfl (lv_at hl 1 rfl) ?_
  refine lv_iconst (v := 1) hx hb dX0_paintPiece_57 (by decide) ?_
  refine wz_stz C hH 10 (by decide) rfl rfl hn (by decide) dX0_paintPiece_58 (fun H locs hH => ?_)
  refine wz_fld C hH hl 0 rfl 11 (by decide) q32 dX0_paintPiece_59 dX0_paintPiece_60 ?_
  refine lv_iload_n hx hb dX0_paintPiece_63 rfl (lv_at hl 1 rfl) ?_
  refine lv_iload_n hx hb dX0_paintPiece_64 rfl (lv_at hl 2 rfl) ?_
  refine wz_st C hH 11 (by decide) rfl rfl hn dX0_paintPiece_65 (fun H locs hH => ?_)
  exact wz_rv C hr hlocks hH (rfl) dX0_paintPiece_66

set_option maxHeartbeats 4000000 in
set_option maxRecDepth 100000 in
/-- turnPiece -/
theorem wz_turnPiece {l : Launch} {D : va_G} {h : Nat} {r : Nat → Nat} {ca : Nat → ClassId} {f : pz_S} {x : Int32} (hP : pz_P x) : wz_Mv l yX0_turnPiece cX0_turnPiece 2 ({ frames := 0, cells := 0, slots := 0, locals := 0 } : Room) D 0 13 h r wz_e0 ca f [.int x] (fun f' => f' = pz_tn f x) := by
  unfold pz_tn
  refine wz_sv (T := TX0) (by decide) (Nat.le_of_ble_eq_true rfl) rfl in_X0 ?_
  intro p e s m args below meth c A ls C hr hlocks hml hl hH
  have C : wz_C p s m args c cX0_turnPiece D 0 13 RX0 TX0 wz_e0 ca A := C
  have hx := C.1
  have hb := C.2.1
  have hts := C.2.2.1
  have hl : lv_has ls 2 [(0, .ref h), (1, .int x)] := hl
  refine lv_iload_n hx hb dX0_turnPiece_0 rfl (lv_at hl 1 rfl) ?_
  refine lv_if_lt (tgt := 24) hx hb dX0_turnPiece_1 (by decide) (fun c1 => ?_) (fun c1 => ?_)
  · exact wz_rv C hr hlocks hH (by rw [if_pos c1]) dX0_turnPiece_24
  · obtain ⟨k, hk, ek⟩ := pz_P_ge hP c1
    refine wz_fld C hH hl 0 rfl 9 (by decide) q30 dX0_turnPiece_4 dX0_turnPiece_5 ?_
    refine lv_iload_n hx hb dX0_turnPiece_8 rfl (lv_at hl 1 rfl) ?_
    refine wz_fld C hH hl 0 rfl 9 (by decide) q30 dX0_turnPiece_9 dX0_turnPiece_10 ?_
    refine lv_iload_n hx hb dX0_turnPiece_13 rfl (lv_at hl 1 rfl) ?_
    refine wz_ldz C hH 9 (by decide) rfl ek hk dX0_turnPiece_14 ?_
    refine lv_if_ne (tgt := 22) hx hb dX0_turnPiece_15 (by decide) (fun c15 => ?_) (fun c15 => ?_)
    · refine lv_iconst (v := 0) hx hb dX0_turnPiece_22 (by decide) ?_
      refine wz_stz C hH 9 (by decide) rfl ek hk (by decide) dX0_turnPiece_23 (fun H locs hH => ?_)
      refine wz_rv C hr hlocks hH ?_ dX0_turnPiece_24
      rw [if_neg c1, ek, pz_cl hk]
      unfold pz_tg
      rw [if_neg c15]
    · refine lv_iconst (v := 1) hx hb dX0_turnPiece_18 (by decide) ?_
      refine lv_goto (tgt := 23) hx hb dX0_turnPiece_19 (by decide) ?_
      refine wz_stz C hH 9 (by decide) rfl ek hk (by decide) dX0_turnPiece_23 (fun H locs hH => ?_)
      refine wz_rv C hr hlocks hH ?_ dX0_turnPiece_24
      rw [if_neg c1, ek, pz_cl hk]
      unfold pz_tg
      rw [if_pos c15]
end
section
/-! WALK 2: handDown, rotate (printed by wip/D-64312w/gen/leaf2.py) -/
def pz_Rg (f : pz_S) : Prop := ∀ x, x < 24 → pz_P (f 0 x) ∧ pz_P (f 1 x) ∧ pz_P (f 2 x)
theorem pz_Rg_I {f : pz_S} {sv : pz_V} (h : pz_I f sv) : pz_Rg f := fun x hx => (h x hx).1.1
theorem pz_fu_P {f : pz_S} {k i a b : Nat} {v : Int32} (h : pz_P (f a b)) (hv : pz_P v) : pz_P (pz_fu f k i v a b) := by
  unfold pz_fu
  split
  · exact hv
  · exact h
theorem pz_Rg_fu {f : pz_S} {k i : Nat} {v : Int32} (h : pz_Rg f) (hv : pz_P v) : pz_Rg (pz_fu f k i v) := fun x hx => ⟨pz_fu_P (h x hx).1 hv, pz_fu_P (h x hx).2.1 hv, pz_fu_P (h x hx).2.2 hv⟩
theorem pz_Rg_gth {f : pz_S} {n : Nat} (h : pz_Rg f) : pz_Rg (pz_gth f n) := fun x hx => by
  rw [pz_gth_k (by decide) (by decide) (by decide) (by decide), pz_gth_k (by decide) (by decide) (by decide) (by decide), pz_gth_k (by decide) (by decide) (by decide) (by decide)]
  exact h x hx
theorem pz_Rg_ab {f : pz_S} {a b x : Nat} (hab : pz_ab a b) (h : pz_Rg f) (hx : x < 24) : pz_P (f b x) := by
  rcases hab with ⟨-, rfl⟩ | ⟨-, rfl⟩
  · exact (h x hx).2.1
  · exact (h x hx).1
theorem pz_Rg_r5 {f : pz_S} {n p a b : Nat} (hab : pz_ab a b) (h : pz_Rg f) (hn : n < 24) (hp : p < 24) : pz_Rg (pz_r5 f n p a b) := by
  have h1 : pz_Rg (pz_r3 f n p a b) := by
    unfold pz_r3
    split
    · exact pz_Rg_fu (pz_Rg_fu h (pz_Rg_ab hab h hn)) (pz_P_n hp)
    · exact pz_Rg_fu (pz_Rg_fu (pz_Rg_fu h (pz_Rg_ab hab h hn)) (pz_P_n hp)) (pz_P_n hp)
  unfold pz_r5
  exact pz_Rg_fu (pz_Rg_fu h1 (pz_P_n hn)) (h p hp).2.2
theorem pz_Rg_r6 {f : pz_S} {n p a b : Nat} (hab : pz_ab a b) (h : pz_Rg f) (hn : n < 24) (hp : p < 24) : pz_Rg (pz_r6 f n p a b) := by
  have h1 := pz_Rg_r5 hab h hn hp
  unfold pz_r6
  split
  · exact h1
  · split
    · exact pz_Rg_fu h1 (pz_P_n hn)
    · exact pz_Rg_fu h1 (pz_P_n hn)

set_option maxHeartbeats 4000000 in
set_option maxRecDepth 100000 in
/-- handDown -/
theorem wz_handDown {l : Launch} {D : va_G} {h : Nat} {r : Nat → Nat} {ca : Nat → ClassId} {f : pz_S} {sv : pz_V} {n : Nat} (hn : n < 24) (hI : pz_I f sv) : wz_Mv l yX0_handDown cX0_handDown 3 ({ frames := 1, cells := 0, slots := 0, locals := 22 } : Room) D 0 13 h r wz_e0 ca f [.int (nI n)] (fun f' => f' = pz_hd f n) := by
  refine wz_sv (T := TX0) (by decide) (Nat.le_of_ble_eq_true rfl) rfl in_X0 ?_
  intro p e s m args below meth c A ls C hr hlocks hml hl hH
  have C : wz_C p s m args c cX0_handDown D 0 13 RX0 TX0 wz_e0 ca A := C
  have hx := C.1
  have hb := C.2.1
  have hts := C.2.2.1
  have hl : lv_has ls 3 [(0, .ref h), (1, .int (nI n))] := hl
  obtain ⟨sv1, hR1, -⟩ := pz_hT_ok hI hn
  have hI1 := hR1.1
  obtain ⟨G, hG⟩ : ∃ G, G = pz_hT f n := ⟨_, rfl⟩
  rw [← hG] at hI1
  have P0 := (hI1 n hn).1.1.1
  have P1 := (hI1 n hn).1.1.2.1
  have nn : ∀ c, c < 24 → pz_ch G n c → c ≠ n := fun c hc h9 => pz_chne hI1 hn hc h9
  have hpost : pz_hd f n = pz_hP G n := by rw [hG]; rfl
  have e11 : pz_pc G (G 0 n) (G 11 n) 11 n = G 11 n := pz_pc_o P0 (fun z => nn n hn (Or.inl z) rfl)
  have e1 : pz_pc G (G 0 n) (G 11 n) 1 n = G 1 n := pz_pc_k (by decide) (by decide) (by decide) (by decide) (by decide) (by decide)
  have t121 : ∀ (H : Heap) (locs : List Loc) (ls : Array Slot), wz_H D 0 13 h r ca (pz_pc (pz_pc G (G 0 n) (G 11 n)) (G 1 n) (G 11 n)) A s.heap H locs → lv_has ls 3 [(0, .ref h), (1, .int (nI n))] → ¬ G 10 n = 0 → W p l e ({ frames := 1, cells := 0, slots := 0, locals := 22 } : Room) s m args below meth c H locs 0 0 (wz_Qv below (fun f' => f' = pz_hd f n) D 0 13 h r wz_e0 ca A args s) (F0 m 121 ls []) := by
    intro H locs ls hH hl h10
    refine wz_fld C hH hl 0 rfl 10 (by decide) q31 dX0_handDown_121 dX0_handDown_122 ?_
    refine lv_iload_n hx hb dX0_handDown_125 rfl (lv_at hl 1 rfl) ?_
    refine lv_iconst (v := 0) hx hb dX0_handDown_126 (by decide) ?_
    refine wz_stz C hH 10 (by decide) rfl rfl hn (by decide) dX0_handDown_127 (fun H locs hH => ?_)
    refine wz_rv C hr hlocks hH ?_ dX0_handDown_128
    rw [hpost]
    exact (if_neg h10).symm
  have t96 : ∀ (H : Heap) (locs : List Loc) (ls : Array Slot), wz_H D 0 13 h r ca (pz_pc G (G 0 n) (G 11 n)) A s.heap H locs → lv_has ls 3 [(0, .ref h), (1, .int (nI n))] → ¬ G 10 n = 0 → W p l e ({ frames := 1, cells := 0, slots := 0, locals := 22 } : Room) s m args below meth c H locs 0 0 (wz_Qv below (fun f' => f' = pz_hd f n) D 0 13 h r wz_e0 ca A args s) (F0 m 96 ls []) := by
    intro H locs ls hH hl h10
    refine wz_fld C hH hl 0 rfl 1 (by decide) q22 dX0_handDown_96 dX0_handDown_97 ?_
    refine lv_iload_n hx hb dX0_handDown_100 rfl (lv_at hl 1 rfl) ?_
    refine wz_ldv (v := (G 1 n)) C hH 1 (by decide) rfl rfl hn e1 dX0_handDown_101 ?_
    refine lv_if_lt (tgt := 121) hx hb dX0_handDown_102 (by decide) (fun c102 => ?_) (fun c102 => ?_)
    · have e9 : (pz_pc (pz_pc G (G 0 n) (G 11 n)) (G 1 n) (G 11 n)) = (pz_pc G (G 0 n) (G 11 n)) := if_pos c102
      exact t121 _ _ ls (by rw [e9]; exact hH) hl h10
    · obtain ⟨k, hk, ek⟩ := pz_P_ge P1 c102
      refine lv_aload_n hx hb dX0_handDown_105 rfl (lv_at hl 0 rfl) ?_
      refine wz_fld C hH hl 0 rfl 1 (by decide) q22 dX0_handDown_106 dX0_handDown_107 ?_
      refine lv_iload_n hx hb dX0_handDown_110 rfl (lv_at hl 1 rfl) ?_
      refine wz_ldv (v := (nI k)) C hH 1 (by decide) rfl rfl hn (e1.trans ek) dX0_handDown_111 ?_
      refine wz_fld C hH hl 0 rfl 11 (by decide) q32 dX0_handDown_112 dX0_handDown_113 ?_
      refine lv_iload_n hx hb dX0_handDown_116 rfl (lv_at hl 1 rfl) ?_
      refine wz_ldv (v := (G 11 n)) C hH 11 (by decide) rfl rfl hn e11 dX0_handDown_117 ?_
      refine wz_cv C hml hl.1 hH (wz_paintPiece (f := (pz_pc G (G 0 n) (G 11 n))) hk) (cwV 2 hts (lw_V q94 q96 qs5 q11 q97) rfl rfl rfl (by decide +kernel) ⟨Nat.le_of_ble_eq_true rfl, Nat.le_of_ble_eq_true rfl⟩) rfl rfl (Nat.le_of_ble_eq_true rfl) dX0_handDown_118 ⟨Nat.zero_le _, Nat.zero_le _⟩ (fun F H locs hp hH => ?_)
      have e9 : (pz_pc (pz_pc G (G 0 n) (G 11 n)) (G 1 n) (G 11 n)) = pz_pp (pz_pc G (G 0 n) (G 11 n)) k (G 11 n) := by rw [ek, pz_pc_s hk]
      exact t121 _ _ ls (by rw [e9, ← hp]; exact hH) hl h10
  have t62 : ∀ (H : Heap) (locs : List Loc) (ls : Array Slot), wz_H D 0 13 h r ca G A s.heap H locs → lv_has ls 3 [(0, .ref h), (1, .int (nI n))] → W p l e ({ frames := 1, cells := 0, slots := 0, locals := 22 } : Room) s m args below meth c H locs 0 0 (wz_Qv below (fun f' => f' = pz_hd f n) D 0 13 h r wz_e0 ca A args s) (F0 m 62 ls []) := by
    intro H locs ls hH hl
    refine wz_fld C hH hl 0 rfl 10 (by decide) q31 dX0_handDown_62 dX0_handDown_63 ?_
    refine lv_iload_n hx hb dX0_handDown_66 rfl (lv_at hl 1 rfl) ?_
    refine wz_ldz C hH 10 (by decide) rfl rfl hn dX0_handDown_67 ?_
    refine lv_if_eq (tgt := 128) hx hb dX0_handDown_68 (by decide) (fun c68 => ?_) (fun c68 => ?_)
    · refine wz_rv C hr hlocks hH ?_ dX0_handDown_128
      rw [hpost]
      exact (if_pos c68).symm
    · refine wz_fld C hH hl 0 rfl 0 (by decide) q21 dX0_handDown_71 dX0_handDown_72 ?_
      refine lv_iload_n hx hb dX0_handDown_75 rfl (lv_at hl 1 rfl) ?_
      refine wz_ld C hH 0 (by decide) rfl rfl hn dX0_handDown_76 ?_
      refine lv_if_lt (tgt := 96) hx hb dX0_handDown_77 (by decide) (fun c77 => ?_) (fun c77 => ?_)
      · have e9 : (pz_pc G (G 0 n) (G 11 n)) = G := if_pos c77
        exact t96 _ _ ls (by rw [e9]; exact hH) hl c68
      · obtain ⟨k, hk, ek⟩ := pz_P_ge P0 c77
        refine lv_aload_n hx hb dX0_handDown_80 rfl (lv_at hl 0 rfl) ?_
        refine wz_fld C hH hl 0 rfl 0 (by decide) q21 dX0_handDown_81 dX0_handDown_82 ?_
        refine lv_iload_n hx hb dX0_handDown_85 rfl (lv_at hl 1 rfl) ?_
        refine wz_ldv (v := (nI k)) C hH 0 (by decide) rfl rfl hn ek dX0_handDown_86 ?_
        refine wz_fld C hH hl 0 rfl 11 (by decide) q32 dX0_handDown_87 dX0_handDown_88 ?_
        refine lv_iload_n hx hb dX0_handDown_91 rfl (lv_at hl 1 rfl) ?_
        refine wz_ld C hH 11 (by decide) rfl rfl hn dX0_handDown_92 ?_
        refine wz_cv C hml hl.1 hH (wz_paintPiece (f := G) hk) (cwV 2 hts (lw_V q94 q96 qs5 q11 q97) rfl rfl rfl (by decide +kernel) ⟨Nat.le_of_ble_eq_true rfl, Nat.le_of_ble_eq_true rfl⟩) rfl rfl (Nat.le_of_ble_eq_true rfl) dX0_handDown_93 ⟨Nat.zero_le _, Nat.zero_le _⟩ (fun F H locs hp hH => ?_)
        have e9 : (pz_pc G (G 0 n) (G 11 n)) = pz_pp G k (G 11 n) := by rw [ek, pz_pc_s hk]
        exact t96 _ _ ls (by rw [e9, ← hp]; exact hH) hl c68
  refine wz_fld C hH hl 0 rfl 9 (by decide) q30 dX0_handDown_0 dX0_handDown_1 ?_
  refine lv_iload_n hx hb dX0_handDown_4 rfl (lv_at hl 1 rfl) ?_
  refine wz_ldz C hH 9 (by decide) rfl rfl hn dX0_handDown_5 ?_
  refine lv_if_eq (tgt := 62) hx hb dX0_handDown_6 (by decide) (fun c6 => ?_) (fun c6 => ?_)
  · have e9 : G = f := by rw [hG]; exact if_pos c6
    exact t62 _ _ ls (by rw [e9]; exact hH) hl
  · refine wz_fld C hH hl 0 rfl 0 (by decide) q21 dX0_handDown_9 dX0_handDown_10 ?_
    refine lv_iload_n hx hb dX0_handDown_13 rfl (lv_at hl 1 rfl) ?_
    refine wz_ld C hH 0 (by decide) rfl rfl hn dX0_handDown_14 ?_
    refine lv_istore_n (lv' := [(2, .int (f 0 n)), (0, .ref h), (1, .int (nI n))]) hx hb dX0_handDown_15 rfl hl (by decide) rfl (fun ls hl => ?_)
    refine wz_fld C hH hl 1 rfl 0 (by decide) q21 dX0_handDown_16 dX0_handDown_17 ?_
    refine lv_iload_n hx hb dX0_handDown_20 rfl (lv_at hl 2 rfl) ?_
    refine wz_fld C hH hl 1 rfl 1 (by decide) q22 dX0_handDown_21 dX0_handDown_22 ?_
    refine lv_iload_n hx hb dX0_handDown_25 rfl (lv_at hl 2 rfl) ?_
    refine wz_ld C hH 1 (by decide) rfl rfl hn dX0_handDown_26 ?_
    refine wz_st C hH 0 (by decide) rfl rfl hn dX0_handDown_27 (fun H locs hH => ?_)
    refine wz_fld C hH hl 1 rfl 1 (by decide) q22 dX0_handDown_28 dX0_handDown_29 ?_
    refine lv_iload_n hx hb dX0_handDown_32 rfl (lv_at hl 2 rfl) ?_
    refine lv_iload_n hx hb dX0_handDown_33 rfl (lv_at hl 0 rfl) ?_
    refine wz_st C hH 1 (by decide) rfl rfl hn dX0_handDown_34 (fun H locs hH => ?_)
    refine lv_aload_n hx hb dX0_handDown_35 rfl (lv_at hl 1 rfl) ?_
    refine wz_fld C hH hl 1 rfl 0 (by decide) q21 dX0_handDown_36 dX0_handDown_37 ?_
    refine lv_iload_n hx hb dX0_handDown_40 rfl (lv_at hl 2 rfl) ?_
    refine wz_ldv (v := (f 1 n)) C hH 0 (by decide) rfl rfl hn (by rw [pz_fu_k (by decide), pz_fu_s]) dX0_handDown_41 ?_
    refine wz_cv C hml hl.1 hH (wz_turnPiece (f := (pz_fu (pz_fu f 0 n (f 1 n)) 1 n (f 0 n))) (hI n hn).1.1.2.1) (cwV 1 hts (lw_V q90 q92 qs4 q11 q93) rfl rfl rfl (by decide +kernel) ⟨Nat.le_of_ble_eq_true rfl, Nat.le_of_ble_eq_true rfl⟩) rfl rfl (Nat.le_of_ble_eq_true rfl) dX0_handDown_42 ⟨Nat.zero_le _, Nat.zero_le _⟩ (fun F H locs hp hH => ?_)
    subst hp
    refine lv_aload_n hx hb dX0_handDown_45 rfl (lv_at hl 1 rfl) ?_
    refine wz_fld C hH hl 1 rfl 1 (by decide) q22 dX0_handDown_46 dX0_handDown_47 ?_
    refine lv_iload_n hx hb dX0_handDown_50 rfl (lv_at hl 2 rfl) ?_
    refine wz_ldv (v := (f 0 n)) C hH 1 (by decide) rfl rfl hn (by rw [pz_tn_k (by decide), pz_fu_s]) dX0_handDown_51 ?_
    refine wz_cv C hml hl.1 hH (wz_turnPiece (f := (pz_tn (pz_fu (pz_fu f 0 n (f 1 n)) 1 n (f 0 n)) (f 1 n))) (hI n hn).1.1.1) (cwV 1 hts (lw_V q90 q92 qs4 q11 q93) rfl rfl rfl (by decide +kernel) ⟨Nat.le_of_ble_eq_true rfl, Nat.le_of_ble_eq_true rfl⟩) rfl rfl (Nat.le_of_ble_eq_true rfl) dX0_handDown_52 ⟨Nat.zero_le _, Nat.zero_le _⟩ (fun F H locs hp hH => ?_)
    subst hp
    refine wz_fld C hH hl 1 rfl 9 (by decide) q30 dX0_handDown_55 dX0_handDown_56 ?_
    refine lv_iload_n hx hb dX0_handDown_59 rfl (lv_at hl 2 rfl) ?_
    refine lv_iconst (v := 0) hx hb dX0_handDown_60 (by decide) ?_
    refine wz_stz C hH 9 (by decide) rfl rfl hn (by decide) dX0_handDown_61 (fun H locs hH => ?_)
    have e9 : G = (pz_fu (pz_tn (pz_tn (pz_fu (pz_fu f 0 n (f 1 n)) 1 n (f 0 n)) (f 1 n)) (f 0 n)) 9 n 0) := by rw [hG]; exact if_neg c6
    exact t62 _ _ ls (by rw [e9]; exact hH) (lv_sub hl [1, 2] rfl)

set_option maxHeartbeats 4000000 in
set_option maxRecDepth 100000 in
/-- rotate -/
theorem wz_rotate {l : Launch} {D : va_G} {h : Nat} {r : Nat → Nat} {ca : Nat → ClassId} {f : pz_S} {n q : Nat} (hn : n < 24) (hq : q < 24) (hR : pz_Rg f) (h2 : f 2 n = nI q) : wz_Mv l yX0_rotate cX0_rotate 7 ({ frames := 2, cells := 0, slots := 0, locals := 43 } : Room) D 0 13 h r wz_e0 ca f [.int (nI n)] (fun f' => f' = pz_rot f n q) := by
  refine wz_sv (T := TX0) (by decide) (Nat.le_of_ble_eq_true rfl) rfl in_X0 ?_
  intro p e s m args below meth c A ls C hr hlocks hml hl hH
  have C : wz_C p s m args c cX0_rotate D 0 13 RX0 TX0 wz_e0 ca A := C
  have hx := C.1
  have hb := C.2.1
  have hts := C.2.2.1
  have hl : lv_has ls 7 [(0, .ref h), (1, .int (nI n))] := hl
  have t157 : ∀ (a b : Nat), pz_ab a b → pz_rot f n q = pz_gth (pz_gth (pz_r6 f n q a b) q) n → ∀ (H : Heap) (locs : List Loc) (ls : Array Slot), wz_H D 0 13 h r ca (pz_r6 f n q a b) A s.heap H locs → lv_has ls 7 [(1, .int (nI n)), (2, .int (nI q)), (0, .ref h)] → W p l e ({ frames := 2, cells := 0, slots := 0, locals := 43 } : Room) s m args below meth c H locs 0 0 (wz_Qv below (fun f' => f' = pz_rot f n q) D 0 13 h r wz_e0 ca A args s) (F0 m 157 ls []) := by
    intro a b hab hrot H locs ls hH hl
    have hRg := pz_Rg_r6 (n := n) (p := q) hab hR hn hq
    refine lv_aload_n hx hb dX0_rotate_157 rfl (lv_at hl 2 rfl) ?_
    refine lv_iload_n hx hb dX0_rotate_158 rfl (lv_at hl 1 rfl) ?_
    refine wz_cv C hml hl.1 hH (wz_gather (f := (pz_r6 f n q a b)) hq (hRg q hq).1 (hRg q hq).2.1) (cwV 1 hts (lw_V q102 q104 qs7 q11 q105) rfl rfl rfl (by decide +kernel) ⟨Nat.le_of_ble_eq_true rfl, Nat.le_of_ble_eq_true rfl⟩) rfl rfl (Nat.le_of_ble_eq_true rfl) dX0_rotate_159 ⟨Nat.zero_le _, Nat.zero_le _⟩ (fun F H locs hp hH => ?_)
    subst hp
    refine lv_aload_n hx hb dX0_rotate_162 rfl (lv_at hl 2 rfl) ?_
    refine lv_iload_n hx hb dX0_rotate_163 rfl (lv_at hl 0 rfl) ?_
    have hRg2 := pz_Rg_gth (n := q) hRg
    refine wz_cv C hml hl.1 hH (wz_gather (f := (pz_gth (pz_r6 f n q a b) q)) hn (hRg2 n hn).1 (hRg2 n hn).2.1) (cwV 1 hts (lw_V q102 q104 qs7 q11 q105) rfl rfl rfl (by decide +kernel) ⟨Nat.le_of_ble_eq_true rfl, Nat.le_of_ble_eq_true rfl⟩) rfl rfl (Nat.le_of_ble_eq_true rfl) dX0_rotate_164 ⟨Nat.zero_le _, Nat.zero_le _⟩ (fun F H locs hp hH => ?_)
    subst hp
    exact wz_rv C hr hlocks hH (hrot.symm) dX0_rotate_167
  have t111 : ∀ (a b : Nat) (v : Int32), pz_ab a b → pz_rot f n q = pz_gth (pz_gth (pz_r6 f n q a b) q) n → ∀ (H : Heap) (locs : List Loc) (ls : Array Slot), wz_H D 0 13 h r ca (pz_r3 f n q a b) A s.heap H locs → lv_has ls 7 [(1, .int (nI n)), (2, .int (nI q)), (3, .int (f 2 q)), (4, .int v), (0, .ref h)] → ((v = 1 ∧ pz_tp f q) ∨ (v = 0 ∧ ¬ pz_tp f q)) → W p l e ({ frames := 2, cells := 0, slots := 0, locals := 43 } : Room) s m args below meth c H locs 0 0 (wz_Qv below (fun f' => f' = pz_rot f n q) D 0 13 h r wz_e0 ca A args s) (F0 m 111 ls []) := by
    intro a b v hab hrot H locs ls hH hl hv
    refine wz_fld C hH hl 4 rfl 2 (by decide) q23 dX0_rotate_111 dX0_rotate_112 ?_
    refine lv_iload_n hx hb dX0_rotate_115 rfl (lv_at hl 1 rfl) ?_
    refine lv_iload_n hx hb dX0_rotate_116 rfl (lv_at hl 0 rfl) ?_
    refine wz_st C hH 2 (by decide) rfl rfl hq dX0_rotate_117 (fun H locs hH => ?_)
    refine wz_fld C hH hl 4 rfl 2 (by decide) q23 dX0_rotate_118 dX0_rotate_119 ?_
    refine lv_iload_n hx hb dX0_rotate_122 rfl (lv_at hl 0 rfl) ?_
    refine lv_iload_n hx hb dX0_rotate_123 rfl (lv_at hl 2 rfl) ?_
    refine wz_st C hH 2 (by decide) rfl rfl hn dX0_rotate_124 (fun H locs hH => ?_)
    have hH : wz_H D 0 13 h r ca (pz_r5 f n q a b) A s.heap H locs := hH
    refine lv_iload hx hb dX0_rotate_125 (lv_at hl 3 rfl) ?_
    refine lv_if_ne (tgt := 157) hx hb dX0_rotate_127 (by decide) (fun c127 => ?_) (fun c127 => ?_)
    · have ht : pz_tb f q = true := (pz_tb_iff (hR q hq).2.2).mpr (hv.elim (fun z => z.2) (fun z => absurd z.1 c127))
      have e9 : (pz_r6 f n q a b) = (pz_r5 f n q a b) := if_pos ht
      exact t157 a b hab hrot _ _ ls (by rw [e9]; exact hH) (lv_sub hl [0, 1, 4] rfl)
    · have ht : ¬ pz_tb f q = true := fun z => hv.elim (fun y => by rw [y.1] at c127; exact absurd c127 (by decide)) (fun y => y.2 ((pz_tb_iff (hR q hq).2.2).mp z))
      obtain ⟨k, hk, ek, -⟩ := pz_ntp (fun z => ht ((pz_tb_iff (hR q hq).2.2).mpr z))
      refine wz_fld C hH hl 4 rfl 0 (by decide) q21 dX0_rotate_130 dX0_rotate_131 ?_
      refine lv_iload_n hx hb dX0_rotate_134 rfl (lv_at hl 2 rfl) ?_
      refine wz_ld C hH 0 (by decide) rfl ek hk dX0_rotate_135 ?_
      refine lv_iload_n hx hb dX0_rotate_136 rfl (lv_at hl 1 rfl) ?_
      refine lv_icmp_ne (tgt := 150) hx hb dX0_rotate_137 (by decide) (fun c137 => ?_) (fun c137 => ?_)
      · refine wz_fld C hH hl 4 rfl 1 (by decide) q22 dX0_rotate_150 dX0_rotate_151 ?_
        refine lv_iload_n hx hb dX0_rotate_154 rfl (lv_at hl 2 rfl) ?_
        refine lv_iload_n hx hb dX0_rotate_155 rfl (lv_at hl 0 rfl) ?_
        refine wz_st C hH 1 (by decide) rfl ek hk dX0_rotate_156 (fun H locs hH => ?_)
        have e9 : (pz_r6 f n q a b) = (pz_fu (pz_r5 f n q a b) 1 k (nI n)) := by unfold pz_r6; rw [if_neg ht, ek, pz_cl hk]; exact if_neg c137
        exact t157 a b hab hrot _ _ ls (by rw [e9]; exact hH) (lv_sub hl [0, 1, 4] rfl)
      · refine wz_fld C hH hl 4 rfl 0 (by decide) q21 dX0_rotate_140 dX0_rotate_141 ?_
        refine lv_iload_n hx hb dX0_rotate_144 rfl (lv_at hl 2 rfl) ?_
        refine lv_iload_n hx hb dX0_rotate_145 rfl (lv_at hl 0 rfl) ?_
        refine wz_st C hH 0 (by decide) rfl ek hk dX0_rotate_146 (fun H locs hH => ?_)
        refine lv_goto (tgt := 157) hx hb dX0_rotate_147 (by decide) ?_
        have e9 : (pz_r6 f n q a b) = (pz_fu (pz_r5 f n q a b) 0 k (nI n)) := by unfold pz_r6; rw [if_neg ht, ek, pz_cl hk]; exact if_pos c137
        exact t157 a b hab hrot _ _ ls (by rw [e9]; exact hH) (lv_sub hl [0, 1, 4] rfl)
  have t98 : ∀ (a b : Nat) (v : Int32), pz_ab a b → pz_rot f n q = pz_gth (pz_gth (pz_r6 f n q a b) q) n → ∀ (H : Heap) (locs : List Loc) (ls : Array Slot), wz_H D 0 13 h r ca (pz_fu (pz_fu f a q (f b n)) b n (nI q)) A s.heap H locs → lv_has ls 7 [(6, .int (f b n)), (1, .int (nI n)), (2, .int (nI q)), (3, .int (f 2 q)), (4, .int v), (0, .ref h)] → ((v = 1 ∧ pz_tp f q) ∨ (v = 0 ∧ ¬ pz_tp f q)) → W p l e ({ frames := 2, cells := 0, slots := 0, locals := 43 } : Room) s m args below meth c H locs 0 0 (wz_Qv below (fun f' => f' = pz_rot f n q) D 0 13 h r wz_e0 ca A args s) (F0 m 98 ls []) := by
    intro a b v hab hrot H locs ls hH hl hv
    refine lv_iload hx hb dX0_rotate_98 (lv_at hl 0 rfl) ?_
    refine lv_if_lt (tgt := 111) hx hb dX0_rotate_100 (by decide) (fun c100 => ?_) (fun c100 => ?_)
    · have e9 : (pz_r3 f n q a b) = (pz_fu (pz_fu f a q (f b n)) b n (nI q)) := if_pos c100
      exact t111 a b v hab hrot _ _ ls (by rw [e9]; exact hH) (lv_sub hl [1, 2, 3, 4, 5] rfl) hv
    · obtain ⟨k, hk, ek⟩ := pz_P_ge (pz_Rg_ab hab hR hn) c100
      refine wz_fld C hH hl 5 rfl 2 (by decide) q23 dX0_rotate_103 dX0_rotate_104 ?_
      refine lv_iload hx hb dX0_rotate_107 (lv_at hl 0 rfl) ?_
      refine lv_iload_n hx hb dX0_rotate_109 rfl (lv_at hl 2 rfl) ?_
      refine wz_st C hH 2 (by decide) rfl ek hk dX0_rotate_110 (fun H locs hH => ?_)
      have e9 : (pz_r3 f n q a b) = (pz_fu (pz_fu (pz_fu f a q (f b n)) b n (nI q)) 2 k (nI q)) := by unfold pz_r3; rw [if_neg c100, ek, pz_cl hk]
      exact t111 a b v hab hrot _ _ ls (by rw [e9]; exact hH) (lv_sub hl [1, 2, 3, 4, 5] rfl) hv
  refine wz_fld C hH hl 0 rfl 2 (by decide) q23 dX0_rotate_0 dX0_rotate_1 ?_
  refine lv_iload_n hx hb dX0_rotate_4 rfl (lv_at hl 1 rfl) ?_
  refine wz_ldv (v := (nI q)) C hH 2 (by decide) rfl rfl hn h2 dX0_rotate_5 ?_
  refine lv_istore_n (lv' := [(2, .int (nI q)), (0, .ref h), (1, .int (nI n))]) hx hb dX0_rotate_6 rfl hl (by decide) rfl (fun ls hl => ?_)
  refine wz_fld C hH hl 1 rfl 2 (by decide) q23 dX0_rotate_7 dX0_rotate_8 ?_
  refine lv_iload_n hx hb dX0_rotate_11 rfl (lv_at hl 0 rfl) ?_
  refine wz_ld C hH 2 (by decide) rfl rfl hq dX0_rotate_12 ?_
  refine lv_istore_n (lv' := [(3, .int (f 2 q)), (2, .int (nI q)), (0, .ref h), (1, .int (nI n))]) hx hb dX0_rotate_13 rfl hl (by decide) rfl (fun ls hl => ?_)
  refine lv_aload_n hx hb dX0_rotate_14 rfl (lv_at hl 2 rfl) ?_
  refine lv_iload_n hx hb dX0_rotate_15 rfl (lv_at hl 1 rfl) ?_
  refine wz_ci C hml hl.1 hH (wz_isTop (f := f) hq (hR q hq).2.2) (cwV 1 hts (lw_V q82 q84 qs2 q11 q85) rfl rfl rfl (by decide +kernel) ⟨Nat.le_of_ble_eq_true rfl, Nat.le_of_ble_eq_true rfl⟩) rfl rfl (Nat.le_of_ble_eq_true rfl) dX0_rotate_16 ⟨Nat.zero_le _, Nat.zero_le _⟩ (fun v F9 H locs hp hH => ?_)
  obtain ⟨hF9, hv⟩ := hp
  subst F9
  refine lv_istore (lv' := [(4, .int v), (3, .int (f 2 q)), (2, .int (nI q)), (0, .ref h), (1, .int (nI n))]) hx hb dX0_rotate_19 hl (by decide) rfl (fun ls hl => ?_)
  refine wz_fld C hH hl 3 rfl 0 (by decide) q21 dX0_rotate_21 dX0_rotate_22 ?_
  refine lv_iload_n hx hb dX0_rotate_25 rfl (lv_at hl 2 rfl) ?_
  refine wz_ld C hH 0 (by decide) rfl rfl hq dX0_rotate_26 ?_
  refine lv_iload_n hx hb dX0_rotate_27 rfl (lv_at hl 4 rfl) ?_
  refine lv_icmp_ne (tgt := 35) hx hb dX0_rotate_28 (by decide) (fun c28 => ?_) (fun c28 => ?_)
  · refine lv_iconst (v := 0) hx hb dX0_rotate_35 (by decide) ?_
    refine lv_istore (lv' := [(5, .int 0), (4, .int v), (3, .int (f 2 q)), (2, .int (nI q)), (0, .ref h), (1, .int (nI n))]) hx hb dX0_rotate_36 hl (by decide) rfl (fun ls hl => ?_)
    refine lv_iload hx hb dX0_rotate_38 (lv_at hl 0 rfl) ?_
    refine lv_if_eq (tgt := 52) hx hb dX0_rotate_40 (by decide) (fun _ => ?_) (fun c40 => absurd (by decide) c40)
    refine wz_fld C hH hl 4 rfl 0 (by decide) q21 dX0_rotate_52 dX0_rotate_53 ?_
    refine lv_iload_n hx hb dX0_rotate_56 rfl (lv_at hl 5 rfl) ?_
    refine wz_ld C hH 0 (by decide) rfl rfl hn dX0_rotate_57 ?_
    refine lv_istore (lv' := [(6, .int (f 0 n)), (5, .int 0), (4, .int v), (3, .int (f 2 q)), (2, .int (nI q)), (0, .ref h), (1, .int (nI n))]) hx hb dX0_rotate_58 hl (by decide) rfl (fun ls hl => ?_)
    refine lv_iload hx hb dX0_rotate_60 (lv_at hl 1 rfl) ?_
    refine lv_if_eq (tgt := 83) hx hb dX0_rotate_62 (by decide) (fun _ => ?_) (fun c62 => absurd (by decide) c62)
    refine wz_fld C hH hl 5 rfl 1 (by decide) q22 dX0_rotate_83 dX0_rotate_84 ?_
    refine lv_iload_n hx hb dX0_rotate_87 rfl (lv_at hl 4 rfl) ?_
    refine lv_iload hx hb dX0_rotate_88 (lv_at hl 0 rfl) ?_
    refine wz_st C hH 1 (by decide) rfl rfl hq dX0_rotate_90 (fun H locs hH => ?_)
    refine wz_fld C hH hl 5 rfl 0 (by decide) q21 dX0_rotate_91 dX0_rotate_92 ?_
    refine lv_iload_n hx hb dX0_rotate_95 rfl (lv_at hl 6 rfl) ?_
    refine lv_iload_n hx hb dX0_rotate_96 rfl (lv_at hl 4 rfl) ?_
    refine wz_st C hH 0 (by decide) rfl rfl hn dX0_rotate_97 (fun H locs hH => ?_)
    exact t98 1 0 v (Or.inr ⟨rfl, rfl⟩) (if_neg c28) _ _ ls hH (lv_sub hl [0, 6, 4, 3, 2, 5] rfl) hv
  · refine lv_iconst (v := 1) hx hb dX0_rotate_31 (by decide) ?_
    refine lv_goto (tgt := 36) hx hb dX0_rotate_32 (by decide) ?_
    refine lv_istore (lv' := [(5, .int 1), (4, .int v), (3, .int (f 2 q)), (2, .int (nI q)), (0, .ref h), (1, .int (nI n))]) hx hb dX0_rotate_36 hl (by decide) rfl (fun ls hl => ?_)
    refine lv_iload hx hb dX0_rotate_38 (lv_at hl 0 rfl) ?_
    refine lv_if_eq (tgt := 52) hx hb dX0_rotate_40 (by decide) (fun c40 => absurd c40 (by decide)) (fun _ => ?_)
    refine wz_fld C hH hl 4 rfl 1 (by decide) q22 dX0_rotate_43 dX0_rotate_44 ?_
    refine lv_iload_n hx hb dX0_rotate_47 rfl (lv_at hl 5 rfl) ?_
    refine wz_ld C hH 1 (by decide) rfl rfl hn dX0_rotate_48 ?_
    refine lv_goto (tgt := 58) hx hb dX0_rotate_49 (by decide) ?_
    refine lv_istore (lv' := [(6, .int (f 1 n)), (5, .int 1), (4, .int v), (3, .int (f 2 q)), (2, .int (nI q)), (0, .ref h), (1, .int (nI n))]) hx hb dX0_rotate_58 hl (by decide) rfl (fun ls hl => ?_)
    refine lv_iload hx hb dX0_rotate_60 (lv_at hl 1 rfl) ?_
    refine lv_if_eq (tgt := 83) hx hb dX0_rotate_62 (by decide) (fun c62 => absurd c62 (by decide)) (fun _ => ?_)
    refine wz_fld C hH hl 5 rfl 0 (by decide) q21 dX0_rotate_65 dX0_rotate_66 ?_
    refine lv_iload_n hx hb dX0_rotate_69 rfl (lv_at hl 4 rfl) ?_
    refine lv_iload hx hb dX0_rotate_70 (lv_at hl 0 rfl) ?_
    refine wz_st C hH 0 (by decide) rfl rfl hq dX0_rotate_72 (fun H locs hH => ?_)
    refine wz_fld C hH hl 5 rfl 1 (by decide) q22 dX0_rotate_73 dX0_rotate_74 ?_
    refine lv_iload_n hx hb dX0_rotate_77 rfl (lv_at hl 6 rfl) ?_
    refine lv_iload_n hx hb dX0_rotate_78 rfl (lv_at hl 4 rfl) ?_
    refine wz_st C hH 1 (by decide) rfl rfl hn dX0_rotate_79 (fun H locs hH => ?_)
    refine lv_goto (tgt := 98) hx hb dX0_rotate_80 (by decide) ?_
    exact t98 0 1 v (Or.inl ⟨rfl, rfl⟩) (if_pos c28) _ _ ls hH (lv_sub hl [0, 6, 4, 3, 2, 5] rfl) hv
end
section
/-! PLAIN 12: lift's loops, in steps -/
/-- the first loop: the nodes from n up lie on the stack -/
def pz_U1 (f : pz_S) (n : Nat) (st : Nat → Nat) (k : Nat) (F : pz_S) : Prop := pz_Ck f n st k ∧ (∀ j y, j ≠ 12 → F j y = f j y) ∧ ∀ i, i ≤ k → F 12 i = nI (st i)
theorem pz_U1_0 {f : pz_S} {n : Nat} (hn : n < 24) : pz_U1 f n (fun _ => n) 0 (pz_fu f 12 0 (nI n)) :=
  ⟨⟨rfl, fun _ _ => hn, fun i hi => absurd hi (Nat.not_lt_zero i)⟩, fun _ _ hj => pz_fu_k hj, fun i hi => by rw [Nat.le_zero.mp hi]; exact pz_fu_s⟩
theorem pz_U1_s {f F : pz_S} {n p k : Nat} {st : Nat → Nat} (h : pz_U1 f n st k F) (hp : p < 24) (e : f 2 (st k) = nI p) (hc : pz_ch f p (st k)) : ∃ st', pz_U1 f n st' (k + 1) (pz_fu F 12 (k + 1) (nI p)) ∧ st' (k + 1) = p := by
  obtain ⟨⟨a1, a2, a3⟩, b, c⟩ := h
  obtain ⟨st', hst⟩ : ∃ st' : Nat → Nat, st' = fun i => if i = k + 1 then p else st i := ⟨_, rfl⟩
  have s1 : st' (k + 1) = p := by rw [hst]; exact if_pos rfl
  have s0 : ∀ i, i ≤ k → st' i = st i := fun i hi => by rw [hst]; exact if_neg (by omega)
  refine ⟨st', ⟨⟨?_, ?_, ?_⟩, ?_, ?_⟩, s1⟩
  · rw [s0 0 (Nat.zero_le _)]
    exact a1
  · intro i hi
    by_cases h1 : i ≤ k
    · rw [s0 i h1]
      exact a2 i h1
    · have : i = k + 1 := by omega
      rw [this, s1]
      exact hp
  · intro i hi
    by_cases h1 : i < k
    · rw [s0 i (by omega), s0 (i + 1) (by omega)]
      exact a3 i h1
    · have : i = k := by omega
      rw [this, s1, s0 k (Nat.le_refl _)]
      exact ⟨e, hc⟩
  · intro j y hj
    rw [pz_fu_k hj]
    exact b j y hj
  · intro i hi
    by_cases h1 : i ≤ k
    · rw [pz_fu_i (by omega), s0 i h1]
      exact c i h1
    · have : i = k + 1 := by omega
      rw [this, pz_fu_s, s1]
/-- the loop's bound is enough -/
theorem pz_U1_b {f F : pz_S} {sv : pz_V} {n k : Nat} {st : Nat → Nat} (hI : pz_I f sv) (h : pz_U1 f n st k F) (ht : ¬ pz_tp f (st k)) : k < 23 := by
  obtain ⟨p, hp, e, hc⟩ := pz_ntp ht
  have h1 := pz_Ck_len hI h.1
  have h2 := (pz_ch_sub hI hp (h.1.2.1 k (Nat.le_refl _)) hc).1
  have h3 := pz_bd hI hp
  omega
/-- the second loop: from the top down to the node i, what waits is handed down -/
def pz_U2 (f : pz_S) (sv : pz_V) (n : Nat) (st : Nat → Nat) (d i : Nat) (F : pz_S) (sv' : pz_V) : Prop :=
  pz_I F sv' ∧ pz_TR f sv F sv' n ∧ (∀ y, F 8 y = f 8 y) ∧ pz_Ck F n st d ∧ pz_tp F (st d) ∧ (∀ j, j ≤ d → F 12 j = nI (st j)) ∧ ∀ j, i ≤ j → j ≤ d → F 9 (st j) = 0 ∧ F 10 (st j) = 0
theorem pz_Ck_congr {f F : pz_S} {n d : Nat} {st : Nat → Nat} (h : pz_Ck f n st d) (h2 : ∀ y, F 2 y = f 2 y) (hc : ∀ x c, pz_ch F x c ↔ pz_ch f x c) : pz_Ck F n st d :=
  ⟨h.1, h.2.1, fun i hi => ⟨by rw [h2]; exact (h.2.2 i hi).1, (hc _ _).mpr (h.2.2 i hi).2⟩⟩
theorem pz_U2_0 {f F : pz_S} {sv : pz_V} {n d : Nat} {st : Nat → Nat} (hI : pz_I f sv) (h : pz_U1 f n st d F) (ht : pz_tp f (st d)) : pz_U2 f sv n st d (d + 1) F sv := by
  obtain ⟨a, b, c⟩ := h
  refine ⟨pz_I12 b hI, pz_TR12 n b, fun y => b 8 y (by decide), pz_Ck_congr a (fun y => b 2 y (by decide)) (pz_ch12 b), (pz_tp_congr (fun y => b 2 y (by decide)) (pz_ch12 b) _).mpr ht, c, fun j h1 h2 => absurd h2 (by omega)⟩
theorem pz_U2_s {f F : pz_S} {sv sv' : pz_V} {n d i : Nat} {st : Nat → Nat} (h : pz_U2 f sv n st d (i + 1) F sv') (hi : i ≤ d) : ∃ sv2, pz_U2 f sv n st d i (pz_hd F (st i)) sv2 := by
  obtain ⟨hI, hR, h8, hC, ht, h12, hz⟩ := h
  have hsi := hC.2.1 i hi
  obtain ⟨sv2, hH, e9, e10⟩ := pz_hd_ok hI hsi
  have hH' := hH
  obtain ⟨a1, a2, a3, a4, a5, a6, a7, a8, a9⟩ := hH'
  refine ⟨sv2, a1, pz_TR_tr hR (pz_HR_TR n hH), fun y => (a7 y).trans (h8 y), pz_Ck_congr hC a4 a5, (pz_tp_congr a4 a5 _).mpr ht, fun j hj => (a8 j).trans (h12 j hj), fun j hj1 hj2 => ?_⟩
  by_cases e : j = i
  · rw [e]
    exact ⟨e9, e10⟩
  · have hlt := pz_Ck_mono hI hC (j - i - 1) i (by omega)
    have e2 : i + (j - i - 1) + 1 = j := by omega
    rw [e2] at hlt
    obtain ⟨b1, b2⟩ := a9 (st j) (hC.2.1 j hj2) hlt
    obtain ⟨c1, c2⟩ := hz j (by omega) hj2
    exact ⟨b1.trans c1, b2.trans c2⟩
/-- the third loop: n comes up -/
def pz_U3 (f : pz_S) (sv : pz_V) (n j : Nat) (F : pz_S) (sv' : pz_V) : Prop := pz_I F sv' ∧ pz_TR f sv F sv' n ∧ pz_C F sv' n ∧ j + 1 ≤ (sv' n).length ∧ ∀ y, F 8 y = f 8 y
theorem pz_U2_e {f F : pz_S} {sv sv' : pz_V} {n d : Nat} {st : Nat → Nat} (hn : n < 24) (h : pz_U2 f sv n st d 0 F sv') : pz_U3 f sv n 0 F sv' := by
  obtain ⟨hI, hR, h8, hC, ht, h12, hz⟩ := h
  exact ⟨hI, hR, pz_Ck_C hI hC ht (fun i hi => hz i (Nat.zero_le _) hi), by have := pz_ne hI hn; omega, h8⟩
theorem pz_U3_n {f F : pz_S} {sv sv' : pz_V} {n j q : Nat} (h : pz_U3 f sv n j F sv') (hn : n < 24) (hq : q < 24) (hch : pz_ch F q n) : ∃ sv2, pz_U3 f sv n (j + 1) (pz_rot F n q) sv2 ∧ (¬ pz_tp F q → ¬ pz_tp (pz_rot F n q) n) := by
  obtain ⟨hI, hR, hC, hl, h8⟩ := h
  obtain ⟨sv2, b1, b2, b3, b4, b5, b6⟩ := pz_stepn hI hn hq hch hC
  exact ⟨sv2, ⟨b1, pz_TR_tr hR b2, b3, by omega, fun y => (b5 y).trans (h8 y)⟩, b6⟩
theorem pz_U3_w {f F : pz_S} {sv sv' : pz_V} {n j : Nat} (h : pz_U3 f sv n (j + 1) F sv') : pz_U3 f sv n j F sv' := by
  obtain ⟨hI, hR, hC, hl, h8⟩ := h
  exact ⟨hI, hR, hC, by omega, h8⟩
theorem pz_U3_p {f F : pz_S} {sv sv' : pz_V} {n j q g : Nat} (h : pz_U3 f sv n j F sv') (hn : n < 24) (hq : q < 24) (hg : g < 24) (hch : pz_ch F q n) (hch2 : pz_ch F g q) (hsame : F 0 q = nI n ↔ F 0 g = nI q) : ∃ sv2, pz_U3 f sv n j (pz_rot F q g) sv2 ∧ pz_ch (pz_rot F q g) q n ∧ pz_rot F q g 2 n = nI q := by
  obtain ⟨hI, hR, hC, hl, h8⟩ := h
  obtain ⟨sv2, b1, b2, b3, b4, b5, b6, b7⟩ := pz_stepp hI hn hq hg hch hch2 hC hsame
  exact ⟨sv2, ⟨b1, pz_TR_tr hR b2, b3, by omega, fun y => (b5 y).trans (h8 y)⟩, b6, b7⟩
theorem pz_U3_b {f F : pz_S} {sv sv' : pz_V} {n j : Nat} (h : pz_U3 f sv n j F sv') (hn : n < 24) (ht : ¬ pz_tp F n) : j < 23 := by
  obtain ⟨hI, hR, hC, hl, h8⟩ := h
  obtain ⟨p, hp, e, hc⟩ := pz_ntp ht
  have h2 := (pz_ch_sub hI hp hn hc).1
  have h3 := pz_bd hI hp
  omega
theorem pz_U3_b' {f F : pz_S} {sv sv' : pz_V} {n j : Nat} (h : pz_U3 f sv n j F sv') (hn : n < 24) : j < 24 := by
  have h3 := pz_bd h.1 hn
  have := h.2.2.2.1
  omega
theorem pz_U3_e {f F : pz_S} {sv sv' : pz_V} {n j : Nat} (h : pz_U3 f sv n j F sv') (hn : n < 24) (ht : pz_tp F n) : pz_LP f sv n F sv' := by
  obtain ⟨hI, hR, hC, hl, h8⟩ := h
  obtain ⟨c1, c2⟩ := hC n hn (pz_self hI hn)
  exact ⟨hI, hR, ht, c1, c2, h8⟩
/-- counting down -/
theorem pz_dn1 {x : Int32} {i : Nat} (h : x + 1 = nI (i + 1)) : x = nI i := by
  rw [nI_succ] at h
  grind
theorem pz_dn0 {x : Int32} (h : x + 1 = nI 0) : x < 0 := by
  have : x = -1 := by
    rw [nI_0] at h
    grind
  rw [this]
  exact pz_m1
end
section
/-! WALK 3: lift (printed by wip/D-64312w/gen/lift.py) -/
set_option maxHeartbeats 4000000 in
set_option maxRecDepth 100000 in
/-- lift -/
theorem wz_lift {l : Launch} {D : va_G} {h : Nat} {r : Nat → Nat} {ca : Nat → ClassId} {f : pz_S} {sv : pz_V} {n : Nat} (hn : n < 24) (hI : pz_I f sv) : wz_Mv l yX0_lift cX0_lift 7 ({ frames := 3, cells := 0, slots := 0, locals := 69 } : Room) D 0 13 h r wz_e0 ca f [.int (nI n)] (fun f' => ∃ sv', pz_LP f sv n f' sv') := by
  refine wz_sv (T := TX0) (by decide) (Nat.le_of_ble_eq_true rfl) rfl in_X0 ?_
  intro p e s m args below meth c A ls C hr hlocks hml hl hH
  have C : wz_C p s m args c cX0_lift D 0 13 RX0 TX0 wz_e0 ca A := C
  have hx := C.1
  have hb := C.2.1
  have hts := C.2.2.1
  have hl : lv_has ls 7 [(0, .ref h), (1, .int (nI n))] := hl
  have t80 : ∀ (k j : Nat) (F : pz_S) (sv' : pz_V) (H : Heap) (locs : List Loc) (ls : Array Slot), j + k = 25 → pz_U3 f sv n j F sv' → wz_H D 0 13 h r ca F A s.heap H locs → lv_has ls 7 [(0, .ref h), (1, .int (nI n)), (4, .int (nI j))] → W p l e ({ frames := 3, cells := 0, slots := 0, locals := 69 } : Room) s m args below meth c H locs 0 0 (wz_Qv below (fun f' => ∃ sv', pz_LP f sv n f' sv') D 0 13 h r wz_e0 ca A args s) (F0 m 80 ls []) := by
    intro k
    induction k with
    | zero =>
      intro j F sv' H locs ls hk hU
      exact absurd (pz_U3_b' hU hn) (by omega)
    | succ k ih =>
      intro j F sv' H locs ls hk hU hH hl
      have t175 : ∀ (q : Nat) (G : pz_S) (sv2 : pz_V) (H : Heap) (locs : List Loc) (ls : Array Slot), q < 24 → pz_ch G q n → G 2 n = nI q → pz_U3 f sv n j G sv2 → wz_H D 0 13 h r ca G A s.heap H locs → lv_has ls 7 [(0, .ref h), (1, .int (nI n)), (4, .int (nI j))] → W p l e ({ frames := 3, cells := 0, slots := 0, locals := 69 } : Room) s m args below meth c H locs 0 0 (wz_Qv below (fun f' => ∃ sv', pz_LP f sv n f' sv') D 0 13 h r wz_e0 ca A args s) (F0 m 175 ls []) := by
        intro q G sv2 H locs ls hq hch h2 hU hH hl
        refine lv_aload_n hx hb dX0_lift_175 rfl (lv_at hl 0 rfl) ?_
        refine lv_iload_n hx hb dX0_lift_176 rfl (lv_at hl 1 rfl) ?_
        refine wz_cv C hml hl.1 hH (wz_rotate (f := G) hn hq (pz_Rg_I hU.1) h2) (cwV 1 hts (lw_V q98 q100 qs6 q11 q101) rfl rfl rfl (by decide +kernel) ⟨Nat.le_of_ble_eq_true rfl, Nat.le_of_ble_eq_true rfl⟩) rfl rfl (Nat.le_of_ble_eq_true rfl) dX0_lift_177 ⟨Nat.zero_le _, Nat.zero_le _⟩ (fun F H locs hp hH => ?_)
        subst hp
        obtain ⟨sv3, hU3, -⟩ := pz_U3_n hU hn hq hch
        refine lv_iinc (v := (nI (j + 1))) (lv' := [(4, .int (nI (j + 1))), (0, .ref h), (1, .int (nI n))]) hx hb dX0_lift_180 hl (k := 2) rfl (nI_1 j) (by decide) rfl (fun ls hl => ?_)
        refine lv_goto (tgt := 80) hx hb dX0_lift_183 (by decide) ?_
        exact ih (j + 1) _ sv3 _ _ ls (by omega) hU3 hH (lv_sub hl [1, 2, 0] rfl)
      refine lv_iload hx hb dX0_lift_80 (lv_at hl 2 rfl) ?_
      refine lv_bipush (v := 24) hx hb dX0_lift_82 (by decide) ?_
      refine lv_icmp_ge (tgt := 186) hx hb dX0_lift_84 (by decide) (fun c84 => ?_) (fun c84 => ?_)
      · exact absurd c84 (nI_ge (a := j) (b := 24) (pz_U3_b' hU hn) (by decide))
      · refine lv_aload_n hx hb dX0_lift_87 rfl (lv_at hl 0 rfl) ?_
        refine lv_iload_n hx hb dX0_lift_88 rfl (lv_at hl 1 rfl) ?_
        refine wz_ci C hml hl.1 hH (wz_isTop (f := F) hn (pz_Rg_I hU.1 n hn).2.2) (cwV 1 hts (lw_V q82 q84 qs2 q11 q85) rfl rfl rfl (by decide +kernel) ⟨Nat.le_of_ble_eq_true rfl, Nat.le_of_ble_eq_true rfl⟩) rfl rfl (Nat.le_of_ble_eq_true rfl) dX0_lift_89 ⟨Nat.zero_le _, Nat.zero_le _⟩ (fun v F9 H locs hp hH => ?_)
        obtain ⟨hF9, hv⟩ := hp
        subst F9
        refine lv_if_ne (tgt := 186) hx hb dX0_lift_92 (by decide) (fun c92 => ?_) (fun c92 => ?_)
        · have ht : pz_tp F n := hv.elim (fun z => z.2) (fun z => absurd z.1 c92)
          exact wz_rv C hr hlocks hH ⟨sv', pz_U3_e hU hn ht⟩ dX0_lift_186
        · have ht : ¬ pz_tp F n := hv.elim (fun z => absurd (z.1.symm.trans c92) (by decide)) (fun z => z.2)
          obtain ⟨q, hq, h2, hch⟩ := pz_ntp ht
          refine wz_fld C hH hl 0 rfl 2 (by decide) q23 dX0_lift_95 dX0_lift_96 ?_
          refine lv_iload_n hx hb dX0_lift_99 rfl (lv_at hl 1 rfl) ?_
          refine wz_ldv (v := (nI q)) C hH 2 (by decide) rfl rfl hn h2 dX0_lift_100 ?_
          refine lv_istore (lv' := [(5, .int (nI q)), (0, .ref h), (1, .int (nI n)), (4, .int (nI j))]) hx hb dX0_lift_101 hl (by decide) rfl (fun ls hl => ?_)
          refine lv_aload_n hx hb dX0_lift_103 rfl (lv_at hl 1 rfl) ?_
          refine lv_iload hx hb dX0_lift_104 (lv_at hl 0 rfl) ?_
          refine wz_ci C hml hl.1 hH (wz_isTop (f := F) hq (pz_Rg_I hU.1 q hq).2.2) (cwV 1 hts (lw_V q82 q84 qs2 q11 q85) rfl rfl rfl (by decide +kernel) ⟨Nat.le_of_ble_eq_true rfl, Nat.le_of_ble_eq_true rfl⟩) rfl rfl (Nat.le_of_ble_eq_true rfl) dX0_lift_106 ⟨Nat.zero_le _, Nat.zero_le _⟩ (fun w F9 H locs hp hH => ?_)
          obtain ⟨hF9, hw⟩ := hp
          subst F9
          refine lv_if_ne (tgt := 175) hx hb dX0_lift_109 (by decide) (fun c109 => ?_) (fun c109 => ?_)
          · exact t175 q F sv' _ _ ls hq hch h2 hU hH (lv_sub hl [1, 2, 3] rfl)
          · have htq : ¬ pz_tp F q := hw.elim (fun z => absurd (z.1.symm.trans c109) (by decide)) (fun z => z.2)
            obtain ⟨x, hx9, hx2, hxc⟩ := pz_ntp htq
            refine wz_fld C hH hl 1 rfl 0 (by decide) q21 dX0_lift_112 dX0_lift_113 ?_
            refine lv_iload hx hb dX0_lift_116 (lv_at hl 0 rfl) ?_
            refine wz_ld C hH 0 (by decide) rfl rfl hq dX0_lift_118 ?_
            refine lv_iload_n hx hb dX0_lift_119 rfl (lv_at hl 2 rfl) ?_
            refine lv_icmp_ne (tgt := 127) hx hb dX0_lift_120 (by decide) (fun c120 => ?_) (fun c120 => ?_)
            · refine lv_iconst (v := 0) hx hb dX0_lift_127 (by decide) ?_
              refine wz_fld C hH hl 1 rfl 0 (by decide) q21 dX0_lift_128 dX0_lift_129 ?_
              refine wz_fld C hH hl 1 rfl 2 (by decide) q23 dX0_lift_132 dX0_lift_133 ?_
              refine lv_iload hx hb dX0_lift_136 (lv_at hl 0 rfl) ?_
              refine wz_ldv (v := (nI x)) C hH 2 (by decide) rfl rfl hq hx2 dX0_lift_138 ?_
              refine wz_ld C hH 0 (by decide) rfl rfl hx9 dX0_lift_139 ?_
              refine lv_iload hx hb dX0_lift_140 (lv_at hl 0 rfl) ?_
              refine lv_icmp_ne (tgt := 149) hx hb dX0_lift_142 (by decide) (fun c142 => ?_) (fun c142 => ?_)
              · refine lv_iconst (v := 0) hx hb dX0_lift_149 (by decide) ?_
                refine lv_icmp_ne (tgt := 157) hx hb dX0_lift_150 (by decide) (fun c150 => absurd (by decide) c150) (fun _ => ?_)
                refine lv_iconst (v := 1) hx hb dX0_lift_153 (by decide) ?_
                refine lv_goto (tgt := 158) hx hb dX0_lift_154 (by decide) ?_
                refine lv_istore (lv' := [(6, .int 1), (5, .int (nI q)), (0, .ref h), (1, .int (nI n)), (4, .int (nI j))]) hx hb dX0_lift_158 hl (by decide) rfl (fun ls hl => ?_)
                refine lv_aload_n hx hb dX0_lift_160 rfl (lv_at hl 2 rfl) ?_
                refine lv_iload hx hb dX0_lift_161 (lv_at hl 0 rfl) ?_
                refine lv_if_eq (tgt := 171) hx hb dX0_lift_163 (by decide) (fun c163 => absurd c163 (by decide)) (fun _ => ?_)
                refine lv_iload hx hb dX0_lift_166 (lv_at hl 1 rfl) ?_
                refine lv_goto (tgt := 172) hx hb dX0_lift_168 (by decide) ?_
                refine wz_cv C hml hl.1 hH (wz_rotate (f := F) hq hx9 (pz_Rg_I hU.1) hx2) (cwV 1 hts (lw_V q98 q100 qs6 q11 q101) rfl rfl rfl (by decide +kernel) ⟨Nat.le_of_ble_eq_true rfl, Nat.le_of_ble_eq_true rfl⟩) rfl rfl (Nat.le_of_ble_eq_true rfl) dX0_lift_172 ⟨Nat.zero_le _, Nat.zero_le _⟩ (fun F H locs hp hH => ?_)
                subst hp
                obtain ⟨sv2, hU2, hch2, h22⟩ := pz_U3_p hU hn hq hx9 hch hxc (iff_of_false c120 c142)
                exact t175 q _ sv2 _ _ ls hq hch2 h22 hU2 hH (lv_sub hl [2, 3, 4] rfl)
              · refine lv_iconst (v := 1) hx hb dX0_lift_145 (by decide) ?_
                refine lv_goto (tgt := 150) hx hb dX0_lift_146 (by decide) ?_
                refine lv_icmp_ne (tgt := 157) hx hb dX0_lift_150 (by decide) (fun _ => ?_) (fun c150 => absurd c150 (by decide))
                refine lv_iconst (v := 0) hx hb dX0_lift_157 (by decide) ?_
                refine lv_istore (lv' := [(6, .int 0), (5, .int (nI q)), (0, .ref h), (1, .int (nI n)), (4, .int (nI j))]) hx hb dX0_lift_158 hl (by decide) rfl (fun ls hl => ?_)
                refine lv_aload_n hx hb dX0_lift_160 rfl (lv_at hl 2 rfl) ?_
                refine lv_iload hx hb dX0_lift_161 (lv_at hl 0 rfl) ?_
                refine lv_if_eq (tgt := 171) hx hb dX0_lift_163 (by decide) (fun _ => ?_) (fun c163 => absurd (by decide) c163)
                refine lv_iload_n hx hb dX0_lift_171 rfl (lv_at hl 3 rfl) ?_
                refine wz_cv C hml hl.1 hH (wz_rotate (f := F) hn hq (pz_Rg_I hU.1) h2) (cwV 1 hts (lw_V q98 q100 qs6 q11 q101) rfl rfl rfl (by decide +kernel) ⟨Nat.le_of_ble_eq_true rfl, Nat.le_of_ble_eq_true rfl⟩) rfl rfl (Nat.le_of_ble_eq_true rfl) dX0_lift_172 ⟨Nat.zero_le _, Nat.zero_le _⟩ (fun F H locs hp hH => ?_)
                subst hp
                obtain ⟨sv2, hU2, hnt⟩ := pz_U3_n hU hn hq hch
                obtain ⟨y, hy, hy2, hyc⟩ := pz_ntp (hnt htq)
                exact t175 y _ sv2 _ _ ls hy hyc hy2 (pz_U3_w hU2) hH (lv_sub hl [2, 3, 4] rfl)
            · refine lv_iconst (v := 1) hx hb dX0_lift_123 (by decide) ?_
              refine lv_goto (tgt := 128) hx hb dX0_lift_124 (by decide) ?_
              refine wz_fld C hH hl 1 rfl 0 (by decide) q21 dX0_lift_128 dX0_lift_129 ?_
              refine wz_fld C hH hl 1 rfl 2 (by decide) q23 dX0_lift_132 dX0_lift_133 ?_
              refine lv_iload hx hb dX0_lift_136 (lv_at hl 0 rfl) ?_
              refine wz_ldv (v := (nI x)) C hH 2 (by decide) rfl rfl hq hx2 dX0_lift_138 ?_
              refine wz_ld C hH 0 (by decide) rfl rfl hx9 dX0_lift_139 ?_
              refine lv_iload hx hb dX0_lift_140 (lv_at hl 0 rfl) ?_
              refine lv_icmp_ne (tgt := 149) hx hb dX0_lift_142 (by decide) (fun c142 => ?_) (fun c142 => ?_)
              · refine lv_iconst (v := 0) hx hb dX0_lift_149 (by decide) ?_
                refine lv_icmp_ne (tgt := 157) hx hb dX0_lift_150 (by decide) (fun _ => ?_) (fun c150 => absurd c150 (by decide))
                refine lv_iconst (v := 0) hx hb dX0_lift_157 (by decide) ?_
                refine lv_istore (lv' := [(6, .int 0), (5, .int (nI q)), (0, .ref h), (1, .int (nI n)), (4, .int (nI j))]) hx hb dX0_lift_158 hl (by decide) rfl (fun ls hl => ?_)
                refine lv_aload_n hx hb dX0_lift_160 rfl (lv_at hl 2 rfl) ?_
                refine lv_iload hx hb dX0_lift_161 (lv_at hl 0 rfl) ?_
                refine lv_if_eq (tgt := 171) hx hb dX0_lift_163 (by decide) (fun _ => ?_) (fun c163 => absurd (by decide) c163)
                refine lv_iload_n hx hb dX0_lift_171 rfl (lv_at hl 3 rfl) ?_
                refine wz_cv C hml hl.1 hH (wz_rotate (f := F) hn hq (pz_Rg_I hU.1) h2) (cwV 1 hts (lw_V q98 q100 qs6 q11 q101) rfl rfl rfl (by decide +kernel) ⟨Nat.le_of_ble_eq_true rfl, Nat.le_of_ble_eq_true rfl⟩) rfl rfl (Nat.le_of_ble_eq_true rfl) dX0_lift_172 ⟨Nat.zero_le _, Nat.zero_le _⟩ (fun F H locs hp hH => ?_)
                subst hp
                obtain ⟨sv2, hU2, hnt⟩ := pz_U3_n hU hn hq hch
                obtain ⟨y, hy, hy2, hyc⟩ := pz_ntp (hnt htq)
                exact t175 y _ sv2 _ _ ls hy hyc hy2 (pz_U3_w hU2) hH (lv_sub hl [2, 3, 4] rfl)
              · refine lv_iconst (v := 1) hx hb dX0_lift_145 (by decide) ?_
                refine lv_goto (tgt := 150) hx hb dX0_lift_146 (by decide) ?_
                refine lv_icmp_ne (tgt := 157) hx hb dX0_lift_150 (by decide) (fun c150 => absurd (by decide) c150) (fun _ => ?_)
                refine lv_iconst (v := 1) hx hb dX0_lift_153 (by decide) ?_
                refine lv_goto (tgt := 158) hx hb dX0_lift_154 (by decide) ?_
                refine lv_istore (lv' := [(6, .int 1), (5, .int (nI q)), (0, .ref h), (1, .int (nI n)), (4, .int (nI j))]) hx hb dX0_lift_158 hl (by decide) rfl (fun ls hl => ?_)
                refine lv_aload_n hx hb dX0_lift_160 rfl (lv_at hl 2 rfl) ?_
                refine lv_iload hx hb dX0_lift_161 (lv_at hl 0 rfl) ?_
                refine lv_if_eq (tgt := 171) hx hb dX0_lift_163 (by decide) (fun c163 => absurd c163 (by decide)) (fun _ => ?_)
                refine lv_iload hx hb dX0_lift_166 (lv_at hl 1 rfl) ?_
                refine lv_goto (tgt := 172) hx hb dX0_lift_168 (by decide) ?_
                refine wz_cv C hml hl.1 hH (wz_rotate (f := F) hq hx9 (pz_Rg_I hU.1) hx2) (cwV 1 hts (lw_V q98 q100 qs6 q11 q101) rfl rfl rfl (by decide +kernel) ⟨Nat.le_of_ble_eq_true rfl, Nat.le_of_ble_eq_true rfl⟩) rfl rfl (Nat.le_of_ble_eq_true rfl) dX0_lift_172 ⟨Nat.zero_le _, Nat.zero_le _⟩ (fun F H locs hp hH => ?_)
                subst hp
                obtain ⟨sv2, hU2, hch2, h22⟩ := pz_U3_p hU hn hq hx9 hch hxc (iff_of_true c120 c142)
                exact t175 q _ sv2 _ _ ls hq hch2 h22 hU2 hH (lv_sub hl [2, 3, 4] rfl)
  have t55 : ∀ (st : Nat → Nat) (d i : Nat) (F : pz_S) (sv' : pz_V) (x4 : Int32) (H : Heap) (locs : List Loc) (ls : Array Slot), i ≤ d + 1 → x4 + 1 = nI i → pz_U2 f sv n st d i F sv' → wz_H D 0 13 h r ca F A s.heap H locs → lv_has ls 7 [(0, .ref h), (1, .int (nI n)), (4, .int x4)] → W p l e ({ frames := 3, cells := 0, slots := 0, locals := 69 } : Room) s m args below meth c H locs 0 0 (wz_Qv below (fun f' => ∃ sv', pz_LP f sv n f' sv') D 0 13 h r wz_e0 ca A args s) (F0 m 55 ls []) := by
    intro st d i
    induction i with
    | zero =>
      intro F sv' x4 H locs ls hi hx4 hU hH hl
      refine lv_iload hx hb dX0_lift_55 (lv_at hl 2 rfl) ?_
      refine lv_if_lt (tgt := 77) hx hb dX0_lift_57 (by decide) (fun c57 => ?_) (fun c57 => ?_)
      · refine lv_iconst (v := 0) hx hb dX0_lift_77 (by decide) ?_
        refine lv_istore (lv' := [(4, .int 0), (0, .ref h), (1, .int (nI n))]) hx hb dX0_lift_78 hl (by decide) rfl (fun ls hl => ?_)
        exact t80 25 0 F sv' _ _ ls rfl (pz_U2_e hn hU) hH (lv_sub (l' := [(0, .ref h), (1, .int (nI n)), (4, .int (nI 0))]) hl [1, 2, 0] rfl)
      · exact absurd (pz_dn0 hx4) c57
    | succ i ih =>
      intro F sv' x4 H locs ls hi hx4 hU hH hl
      have e4 : x4 = nI i := pz_dn1 hx4
      have hi24 : i < 24 := by
        have h1 := pz_Ck_len hU.1 hU.2.2.2.1
        have h2 := pz_bd hU.1 (hU.2.2.2.1.2.1 d (Nat.le_refl _))
        omega
      have hsi : st i < 24 := hU.2.2.2.1.2.1 i (by omega)
      refine lv_iload hx hb dX0_lift_55 (lv_at hl 2 rfl) ?_
      refine lv_if_lt (tgt := 77) hx hb dX0_lift_57 (by decide) (fun c57 => ?_) (fun c57 => ?_)
      · exact absurd c57 (by rw [e4]; exact pz_nlt hi24)
      · refine lv_aload_n hx hb dX0_lift_60 rfl (lv_at hl 0 rfl) ?_
        refine wz_fld C hH hl 0 rfl 12 (by decide) q33 dX0_lift_61 dX0_lift_62 ?_
        refine lv_iload hx hb dX0_lift_65 (lv_at hl 2 rfl) ?_
        refine wz_ldv (v := (nI (st i))) C hH 12 (by decide) rfl e4 hi24 (hU.2.2.2.2.2.1 i (by omega)) dX0_lift_67 ?_
        refine wz_cv C hml hl.1 hH (wz_handDown (f := F) hsi hU.1) (cwV 1 hts (lw_V q86 q88 qs3 q11 q89) rfl rfl rfl (by decide +kernel) ⟨Nat.le_of_ble_eq_true rfl, Nat.le_of_ble_eq_true rfl⟩) rfl rfl (Nat.le_of_ble_eq_true rfl) dX0_lift_68 ⟨Nat.zero_le _, Nat.zero_le _⟩ (fun F H locs hp hH => ?_)
        subst hp
        obtain ⟨sv2, hU2⟩ := pz_U2_s hU (by omega)
        refine lv_iinc (v := (x4 + -1)) (lv' := [(4, .int (x4 + -1)), (0, .ref h), (1, .int (nI n))]) hx hb dX0_lift_71 hl (k := 2) rfl rfl (by decide) rfl (fun ls hl => ?_)
        refine lv_goto (tgt := 55) hx hb dX0_lift_74 (by decide) ?_
        exact ih _ sv2 _ _ _ ls (by omega) (by rw [e4]; grind) hU2 hH (lv_sub hl [1, 2, 0] rfl)
  have t52 : ∀ (st : Nat → Nat) (k : Nat) (F : pz_S) (H : Heap) (locs : List Loc) (ls : Array Slot), pz_U1 f n st k F → pz_tp f (st k) → wz_H D 0 13 h r ca F A s.heap H locs → lv_has ls 7 [(0, .ref h), (1, .int (nI n)), (2, .int (nI k))] → W p l e ({ frames := 3, cells := 0, slots := 0, locals := 69 } : Room) s m args below meth c H locs 0 0 (wz_Qv below (fun f' => ∃ sv', pz_LP f sv n f' sv') D 0 13 h r wz_e0 ca A args s) (F0 m 52 ls []) := by
    intro st k F H locs ls hU ht hH hl
    refine lv_iload_n hx hb dX0_lift_52 rfl (lv_at hl 2 rfl) ?_
    refine lv_istore (lv' := [(4, .int (nI k)), (0, .ref h), (1, .int (nI n)), (2, .int (nI k))]) hx hb dX0_lift_53 hl (by decide) rfl (fun ls hl => ?_)
    exact t55 st k (k + 1) F sv _ _ _ ls (Nat.le_refl _) (nI_1 k) (pz_U2_0 hI hU ht) hH (lv_sub hl [1, 2, 0] rfl)
  have t14 : ∀ (z k : Nat) (st : Nat → Nat) (F : pz_S) (H : Heap) (locs : List Loc) (ls : Array Slot), k + z = 24 → pz_U1 f n st k F → wz_H D 0 13 h r ca F A s.heap H locs → lv_has ls 7 [(0, .ref h), (1, .int (nI n)), (2, .int (nI k)), (3, .int (nI (st k))), (4, .int (nI k))] → W p l e ({ frames := 3, cells := 0, slots := 0, locals := 69 } : Room) s m args below meth c H locs 0 0 (wz_Qv below (fun f' => ∃ sv', pz_LP f sv n f' sv') D 0 13 h r wz_e0 ca A args s) (F0 m 14 ls []) := by
    intro z
    induction z with
    | zero =>
      intro k st F H locs ls hk hU
      have h1 := pz_Ck_len hI hU.1
      have h2 := pz_bd hI (hU.1.2.1 k (Nat.le_refl _))
      exact absurd hk (by omega)
    | succ z ih =>
      intro k st F H locs ls hk hU hH hl
      have hsk : st k < 24 := hU.1.2.1 k (Nat.le_refl _)
      have eF : ∀ j y, j ≠ 12 → F j y = f j y := hU.2.1
      have htp : pz_tp F (st k) ↔ pz_tp f (st k) := pz_tp_congr (fun y => eF 2 y (by decide)) (pz_ch12 eF) _
      refine lv_iload hx hb dX0_lift_14 (lv_at hl 4 rfl) ?_
      refine lv_bipush (v := 23) hx hb dX0_lift_16 (by decide) ?_
      refine lv_icmp_ge (tgt := 52) hx hb dX0_lift_18 (by decide) (fun c18 => ?_) (fun c18 => ?_)
      · have ht : pz_tp f (st k) := Classical.byContradiction fun z => absurd c18 (nI_ge (a := k) (b := 23) (pz_U1_b hI hU z) (by decide))
        exact t52 st k F _ _ ls hU ht hH (lv_sub hl [0, 1, 2] rfl)
      · refine lv_aload_n hx hb dX0_lift_21 rfl (lv_at hl 0 rfl) ?_
        refine lv_iload_n hx hb dX0_lift_22 rfl (lv_at hl 3 rfl) ?_
        refine wz_ci C hml hl.1 hH (wz_isTop (f := F) hsk (by rw [eF 2 _ (by decide)]; exact (hI _ hsk).1.1.2.2)) (cwV 1 hts (lw_V q82 q84 qs2 q11 q85) rfl rfl rfl (by decide +kernel) ⟨Nat.le_of_ble_eq_true rfl, Nat.le_of_ble_eq_true rfl⟩) rfl rfl (Nat.le_of_ble_eq_true rfl) dX0_lift_23 ⟨Nat.zero_le _, Nat.zero_le _⟩ (fun v F9 H locs hp hH => ?_)
        obtain ⟨hF9, hv⟩ := hp
        subst F9
        refine lv_if_ne (tgt := 52) hx hb dX0_lift_26 (by decide) (fun c26 => ?_) (fun c26 => ?_)
        · have ht : pz_tp f (st k) := htp.mp (hv.elim (fun z => z.2) (fun z => absurd z.1 c26))
          exact t52 st k F _ _ ls hU ht hH (lv_sub hl [0, 1, 2] rfl)
        · have ht : ¬ pz_tp f (st k) := hv.elim (fun z => absurd (z.1.symm.trans c26) (by decide)) (fun z y => z.2 (htp.mpr y))
          have hk23 := pz_U1_b hI hU ht
          obtain ⟨q, hq, h2, hch⟩ := pz_ntp ht
          obtain ⟨st', hU', est⟩ := pz_U1_s hU hq h2 hch
          refine wz_fld C hH hl 0 rfl 2 (by decide) q23 dX0_lift_29 dX0_lift_30 ?_
          refine lv_iload_n hx hb dX0_lift_33 rfl (lv_at hl 3 rfl) ?_
          refine wz_ldv (v := (nI q)) C hH 2 (by decide) rfl rfl hsk ((eF 2 _ (by decide)).trans h2) dX0_lift_34 ?_
          refine lv_istore_n (lv' := [(3, .int (nI q)), (0, .ref h), (1, .int (nI n)), (2, .int (nI k)), (4, .int (nI k))]) hx hb dX0_lift_35 rfl hl (by decide) rfl (fun ls hl => ?_)
          refine lv_iinc (v := (nI (k + 1))) (lv' := [(2, .int (nI (k + 1))), (3, .int (nI q)), (0, .ref h), (1, .int (nI n)), (4, .int (nI k))]) hx hb dX0_lift_36 hl (k := 3) rfl (nI_1 k) (by decide) rfl (fun ls hl => ?_)
          refine wz_fld C hH hl 2 rfl 12 (by decide) q33 dX0_lift_39 dX0_lift_40 ?_
          refine lv_iload_n hx hb dX0_lift_43 rfl (lv_at hl 0 rfl) ?_
          refine lv_iload_n hx hb dX0_lift_44 rfl (lv_at hl 1 rfl) ?_
          refine wz_st C hH 12 (by decide) rfl rfl (show k + 1 < 24 by omega) dX0_lift_45 (fun H locs hH => ?_)
          refine lv_iinc (v := (nI (k + 1))) (lv' := [(4, .int (nI (k + 1))), (2, .int (nI (k + 1))), (3, .int (nI q)), (0, .ref h), (1, .int (nI n))]) hx hb dX0_lift_46 hl (k := 4) rfl (nI_1 k) (by decide) rfl (fun ls hl => ?_)
          refine lv_goto (tgt := 14) hx hb dX0_lift_49 (by decide) ?_
          refine ih (k + 1) st' _ _ _ ls (by omega) hU' hH ?_
          rw [est]
          exact (lv_sub hl [3, 4, 1, 2, 0] rfl)
  refine lv_iconst (v := 0) hx hb dX0_lift_0 (by decide) ?_
  refine lv_istore_n (lv' := [(2, .int 0), (0, .ref h), (1, .int (nI n))]) hx hb dX0_lift_1 rfl hl (by decide) rfl (fun ls hl => ?_)
  refine lv_iload_n hx hb dX0_lift_2 rfl (lv_at hl 2 rfl) ?_
  refine lv_istore_n (lv' := [(3, .int (nI n)), (2, .int 0), (0, .ref h), (1, .int (nI n))]) hx hb dX0_lift_3 rfl hl (by decide) rfl (fun ls hl => ?_)
  refine wz_fld C hH hl 2 rfl 12 (by decide) q33 dX0_lift_4 dX0_lift_5 ?_
  refine lv_iconst (v := 0) hx hb dX0_lift_8 (by decide) ?_
  refine lv_iload_n hx hb dX0_lift_9 rfl (lv_at hl 3 rfl) ?_
  refine wz_st C hH 12 (by decide) rfl nI_0.symm (by decide) dX0_lift_10 (fun H locs hH => ?_)
  refine lv_iconst (v := 0) hx hb dX0_lift_11 (by decide) ?_
  refine lv_istore (lv' := [(4, .int 0), (3, .int (nI n)), (2, .int 0), (0, .ref h), (1, .int (nI n))]) hx hb dX0_lift_12 hl (by decide) rfl (fun ls hl => ?_)
  exact t14 24 0 (fun _ => n) _ _ _ ls rfl (pz_U1_0 hn) hH (lv_sub (l' := [(0, .ref h), (1, .int (nI n)), (2, .int (nI 0)), (3, .int (nI n)), (4, .int (nI 0))]) hl [3, 4, 2, 1, 0] rfl)
end
section
/-! WALK 4: expose (printed by wip/D-64312w/gen/expose.py) -/
set_option maxHeartbeats 4000000 in
set_option maxRecDepth 100000 in
/-- expose -/
theorem wz_expose {l : Launch} {D : va_G} {h : Nat} {r : Nat → Nat} {ca : Nat → ClassId} {f : pz_S} {sv : pz_V} {g : pz_S} {n : Nat} (hn : n < 24) (hI : pz_I f sv) (hT : pz_T f sv g) (hF : pz_Fo g) : wz_Mi l yX0_expose cX0_expose 5 .int ({ frames := 4, cells := 0, slots := 0, locals := 95 } : Room) D 0 13 h r wz_e0 ca f [.int (nI n)] (fun v f' => ∃ sv', pz_EP f sv g n v f' sv') := by
  refine wz_si (T := TX0) (by decide) (Nat.le_of_ble_eq_true rfl) rfl in_X0 ?_
  intro p e s m args below meth c A ls C hr hlocks hml hl hH
  have C : wz_C p s m args c cX0_expose D 0 13 RX0 TX0 wz_e0 ca A := C
  have hx := C.1
  have hb := C.2.1
  have hts := C.2.2.1
  have hl : lv_has ls 5 [(0, .ref h), (1, .int (nI n))] := hl
  have t98 : ∀ (k : Nat) (F : pz_S) (sv' : pz_V) (last : Int32) (H : Heap) (locs : List Loc) (ls : Array Slot), pz_EI f sv g n F sv' last (-1) k → wz_H D 0 13 h r ca F A s.heap H locs → lv_has ls 5 [(0, .ref h), (1, .int (nI n)), (2, .int last)] → W p l e ({ frames := 4, cells := 0, slots := 0, locals := 95 } : Room) s m args below meth c H locs 0 0 (wz_Qi below (fun v f' => ∃ sv', pz_EP f sv g n v f' sv') D 0 13 h r wz_e0 ca A args s) (F0 m 98 ls []) := by
    intro k F sv' last H locs ls hE hH hl
    refine lv_aload_n hx hb dX0_expose_98 rfl (lv_at hl 0 rfl) ?_
    refine lv_iload_n hx hb dX0_expose_99 rfl (lv_at hl 1 rfl) ?_
    refine wz_cv C hml hl.1 hH (wz_lift (f := F) hn hE.1) (cwV 1 hts (lw_V q78 q80 qs1 q11 q81) rfl rfl rfl (by decide +kernel) ⟨Nat.le_of_ble_eq_true rfl, Nat.le_of_ble_eq_true rfl⟩) rfl rfl (Nat.le_of_ble_eq_true rfl) dX0_expose_100 ⟨Nat.zero_le _, Nat.zero_le _⟩ (fun F1 H locs hp hH => ?_)
    obtain ⟨sv1, hL⟩ := hp
    refine lv_iload_n hx hb dX0_expose_103 rfl (lv_at hl 2 rfl) ?_
    exact wz_ri C hr hlocks hH ⟨sv1, pz_EI_end hF hn hE hL⟩ dX0_expose_104
  have t7 : ∀ (z k : Nat) (F : pz_S) (sv' : pz_V) (last at_ : Int32) (H : Heap) (locs : List Loc) (ls : Array Slot), k + z = 24 → pz_EI f sv g n F sv' last at_ k → wz_H D 0 13 h r ca F A s.heap H locs → lv_has ls 5 [(0, .ref h), (1, .int (nI n)), (2, .int last), (3, .int at_), (4, .int (nI k))] → W p l e ({ frames := 4, cells := 0, slots := 0, locals := 95 } : Room) s m args below meth c H locs 0 0 (wz_Qi below (fun v f' => ∃ sv', pz_EP f sv g n v f' sv') D 0 13 h r wz_e0 ca A args s) (F0 m 7 ls []) := by
    intro z
    induction z with
    | zero =>
      intro k F sv' last at_ H locs ls hk hE hH hl
      have hk : k = 24 := hk
      subst hk
      have ea := pz_EI_24 hF hE
      subst ea
      refine lv_iload hx hb dX0_expose_7 (lv_at hl 4 rfl) ?_
      refine lv_bipush (v := 24) hx hb dX0_expose_9 (by decide) ?_
      refine lv_icmp_ge (tgt := 98) hx hb dX0_expose_11 (by decide) (fun c11 => ?_) (fun c11 => ?_)
      · exact t98 _ F sv' last _ _ ls hE hH (lv_sub hl [0, 1, 2] rfl)
      · exact absurd (by decide) c11
    | succ z ih =>
      intro k F sv' last at_ H locs ls hk hE hH hl
      have hP := hE.2.2.2.1
      have hPl : pz_P last := hE.2.2.1.elim (fun z => Or.inl z.1) (fun ⟨t, _, _, ht, e, _⟩ => Or.inr ⟨t, ht, e⟩)
      have t71 : ∀ (a : Nat) (F1 : pz_S) (sv1 : pz_V) (H : Heap) (locs : List Loc) (ls : Array Slot), a < 24 → pz_EI f sv g n F sv' last (nI a) k → pz_LP F sv' a F1 sv1 → wz_H D 0 13 h r ca (pz_e2 (pz_e1 F1 a) a last) A s.heap H locs → lv_has ls 5 [(0, .ref h), (1, .int (nI n)), (2, .int last), (3, .int (nI a)), (4, .int (nI k))] → W p l e ({ frames := 4, cells := 0, slots := 0, locals := 95 } : Room) s m args below meth c H locs 0 0 (wz_Qi below (fun v f' => ∃ sv', pz_EP f sv g n v f' sv') D 0 13 h r wz_e0 ca A args s) (F0 m 71 ls []) := by
        intro a F1 sv1 H locs ls ha hE hL hH hl
        refine wz_fld C hH hl 0 rfl 1 (by decide) q22 dX0_expose_71 dX0_expose_72 ?_
        refine lv_iload_n hx hb dX0_expose_75 rfl (lv_at hl 3 rfl) ?_
        refine lv_iload_n hx hb dX0_expose_76 rfl (lv_at hl 2 rfl) ?_
        refine wz_st C hH 1 (by decide) rfl rfl ha dX0_expose_77 (fun H locs hH => ?_)
        refine lv_aload_n hx hb dX0_expose_78 rfl (lv_at hl 0 rfl) ?_
        refine lv_iload_n hx hb dX0_expose_79 rfl (lv_at hl 3 rfl) ?_
        have Q0 : pz_P ((pz_fu (pz_e2 (pz_e1 F1 a) a last) 1 a last) 0 a) := by rw [pz_fu_k (by decide), pz_e2_k (Or.inl (by decide)), pz_e1_k (Or.inl (by decide))]; exact (hL.1 a ha).1.1.1
        have Q1 : pz_P ((pz_fu (pz_e2 (pz_e1 F1 a) a last) 1 a last) 1 a) := by rw [pz_fu_s]; exact hPl
        refine wz_cv C hml hl.1 hH (wz_gather (f := (pz_fu (pz_e2 (pz_e1 F1 a) a last) 1 a last)) ha Q0 Q1) (cwV 1 hts (lw_V q102 q104 qs7 q11 q105) rfl rfl rfl (by decide +kernel) ⟨Nat.le_of_ble_eq_true rfl, Nat.le_of_ble_eq_true rfl⟩) rfl rfl (Nat.le_of_ble_eq_true rfl) dX0_expose_80 ⟨Nat.zero_le _, Nat.zero_le _⟩ (fun F_ H locs hp hH => ?_)
        have hp : F_ = (pz_ex F1 a last) := hp
        subst hp
        obtain ⟨sv2, hE2⟩ := pz_EI_s hI hF hn ha hE hL
        refine lv_iload_n hx hb dX0_expose_83 rfl (lv_at hl 3 rfl) ?_
        refine lv_istore_n (lv' := [(2, .int (nI a)), (0, .ref h), (1, .int (nI n)), (3, .int (nI a)), (4, .int (nI k))]) hx hb dX0_expose_84 rfl hl (by decide) rfl (fun ls hl => ?_)
        refine wz_fld C hH hl 1 rfl 2 (by decide) q23 dX0_expose_85 dX0_expose_86 ?_
        refine lv_iload_n hx hb dX0_expose_89 rfl (lv_at hl 3 rfl) ?_
        refine wz_ld C hH 2 (by decide) rfl rfl ha dX0_expose_90 ?_
        refine lv_istore_n (lv' := [(3, .int ((pz_ex F1 a last) 2 a)), (2, .int (nI a)), (0, .ref h), (1, .int (nI n)), (4, .int (nI k))]) hx hb dX0_expose_91 rfl hl (by decide) rfl (fun ls hl => ?_)
        refine lv_iinc (v := (nI (k + 1))) (lv' := [(4, .int (nI (k + 1))), (3, .int ((pz_ex F1 a last) 2 a)), (2, .int (nI a)), (0, .ref h), (1, .int (nI n))]) hx hb dX0_expose_92 hl (k := 4) rfl (nI_1 k) (by decide) rfl (fun ls hl => ?_)
        refine lv_goto (tgt := 7) hx hb dX0_expose_95 (by decide) ?_
        exact ih (k + 1) _ sv2 _ _ _ _ ls (by omega) hE2 hH (lv_sub hl [3, 4, 2, 1, 0] rfl)
      have t52 : ∀ (a : Nat) (F1 : pz_S) (sv1 : pz_V) (H : Heap) (locs : List Loc) (ls : Array Slot), a < 24 → pz_EI f sv g n F sv' last (nI a) k → pz_LP F sv' a F1 sv1 → wz_H D 0 13 h r ca (pz_e1 F1 a) A s.heap H locs → lv_has ls 5 [(0, .ref h), (1, .int (nI n)), (2, .int last), (3, .int (nI a)), (4, .int (nI k))] → W p l e ({ frames := 4, cells := 0, slots := 0, locals := 95 } : Room) s m args below meth c H locs 0 0 (wz_Qi below (fun v f' => ∃ sv', pz_EP f sv g n v f' sv') D 0 13 h r wz_e0 ca A args s) (F0 m 52 ls []) := by
        intro a F1 sv1 H locs ls ha hE hL hH hl
        refine lv_iload_n hx hb dX0_expose_52 rfl (lv_at hl 2 rfl) ?_
        refine lv_if_lt (tgt := 71) hx hb dX0_expose_53 (by decide) (fun c53 => ?_) (fun c53 => ?_)
        · have e9 : (pz_e2 (pz_e1 F1 a) a last) = (pz_e1 F1 a) := if_pos c53
          exact t71 a F1 sv1 _ _ ls ha hE hL (by rw [e9]; exact hH) hl
        · obtain ⟨t, ht, et⟩ := pz_P_ge hPl c53
          refine wz_fld C hH hl 0 rfl 8 (by decide) q29 dX0_expose_56 dX0_expose_57 ?_
          refine lv_iload_n hx hb dX0_expose_60 rfl (lv_at hl 3 rfl) ?_
          refine lv_dup2_11 hx hb dX0_expose_61 rfl rfl ?_
          refine wz_ld C hH 8 (by decide) rfl rfl ha dX0_expose_62 ?_
          refine wz_fld C hH hl 0 rfl 7 (by decide) q28 dX0_expose_63 dX0_expose_64 ?_
          refine lv_iload_n hx hb dX0_expose_67 rfl (lv_at hl 2 rfl) ?_
          refine wz_ld C hH 7 (by decide) rfl et ht dX0_expose_68 ?_
          refine lv_isub hx hb dX0_expose_69 ?_
          refine wz_st C hH 8 (by decide) rfl rfl ha dX0_expose_70 (fun H locs hH => ?_)
          have e9 : (pz_e2 (pz_e1 F1 a) a last) = (pz_fu (pz_e1 F1 a) 8 a (((pz_e1 F1 a) 8 a) - ((pz_e1 F1 a) 7 t))) := by unfold pz_e2; rw [if_neg c53, et, pz_cl ht]
          exact t71 a F1 sv1 _ _ ls ha hE hL (by rw [e9]; exact hH) hl
      refine lv_iload hx hb dX0_expose_7 (lv_at hl 4 rfl) ?_
      refine lv_bipush (v := 24) hx hb dX0_expose_9 (by decide) ?_
      refine lv_icmp_ge (tgt := 98) hx hb dX0_expose_11 (by decide) (fun c11 => ?_) (fun c11 => ?_)
      · exact absurd c11 (nI_ge (a := k) (b := 24) (by omega) (by decide))
      · refine lv_iload_n hx hb dX0_expose_14 rfl (lv_at hl 3 rfl) ?_
        refine lv_if_lt (tgt := 98) hx hb dX0_expose_15 (by decide) (fun c15 => ?_) (fun c15 => ?_)
        · have ea := pz_P_lt hP c15
          subst ea
          exact t98 _ F sv' last _ _ ls hE hH (lv_sub hl [0, 1, 2] rfl)
        · obtain ⟨a, ha, ea⟩ := pz_P_ge hP c15
          subst ea
          refine lv_aload_n hx hb dX0_expose_18 rfl (lv_at hl 0 rfl) ?_
          refine lv_iload_n hx hb dX0_expose_19 rfl (lv_at hl 3 rfl) ?_
          refine wz_cv C hml hl.1 hH (wz_lift (f := F) ha hE.1) (cwV 1 hts (lw_V q78 q80 qs1 q11 q81) rfl rfl rfl (by decide +kernel) ⟨Nat.le_of_ble_eq_true rfl, Nat.le_of_ble_eq_true rfl⟩) rfl rfl (Nat.le_of_ble_eq_true rfl) dX0_expose_20 ⟨Nat.zero_le _, Nat.zero_le _⟩ (fun F1 H locs hp hH => ?_)
          obtain ⟨sv1, hL⟩ := hp
          refine wz_fld C hH hl 0 rfl 1 (by decide) q22 dX0_expose_23 dX0_expose_24 ?_
          refine lv_iload_n hx hb dX0_expose_27 rfl (lv_at hl 3 rfl) ?_
          refine wz_ld C hH 1 (by decide) rfl rfl ha dX0_expose_28 ?_
          refine lv_if_lt (tgt := 52) hx hb dX0_expose_29 (by decide) (fun c29 => ?_) (fun c29 => ?_)
          · have e9 : (pz_e1 F1 a) = F1 := if_pos c29
            exact t52 a F1 sv1 _ _ ls ha hE hL (by rw [e9]; exact hH) hl
          · obtain ⟨b, hb9, eb⟩ := pz_P_ge (hL.1 a ha).1.1.2.1 c29
            refine wz_fld C hH hl 0 rfl 8 (by decide) q29 dX0_expose_32 dX0_expose_33 ?_
            refine lv_iload_n hx hb dX0_expose_36 rfl (lv_at hl 3 rfl) ?_
            refine lv_dup2_11 hx hb dX0_expose_37 rfl rfl ?_
            refine wz_ld C hH 8 (by decide) rfl rfl ha dX0_expose_38 ?_
            refine wz_fld C hH hl 0 rfl 7 (by decide) q28 dX0_expose_39 dX0_expose_40 ?_
            refine wz_fld C hH hl 0 rfl 1 (by decide) q22 dX0_expose_43 dX0_expose_44 ?_
            refine lv_iload_n hx hb dX0_expose_47 rfl (lv_at hl 3 rfl) ?_
            refine wz_ld C hH 1 (by decide) rfl rfl ha dX0_expose_48 ?_
            refine wz_ld C hH 7 (by decide) rfl eb hb9 dX0_expose_49 ?_
            refine lv_iadd hx hb dX0_expose_50 ?_
            refine wz_st C hH 8 (by decide) rfl rfl ha dX0_expose_51 (fun H locs hH => ?_)
            have e9 : (pz_e1 F1 a) = (pz_fu F1 8 a ((F1 8 a) + (F1 7 b))) := by unfold pz_e1; rw [if_neg c29, eb, pz_cl hb9]
            exact t52 a F1 sv1 _ _ ls ha hE hL (by rw [e9]; exact hH) hl
  refine lv_iconst (v := (-1)) hx hb dX0_expose_0 (by decide) ?_
  refine lv_istore_n (lv' := [(2, .int (-1)), (0, .ref h), (1, .int (nI n))]) hx hb dX0_expose_1 rfl hl (by decide) rfl (fun ls hl => ?_)
  refine lv_iload_n hx hb dX0_expose_2 rfl (lv_at hl 2 rfl) ?_
  refine lv_istore_n (lv' := [(3, .int (nI n)), (2, .int (-1)), (0, .ref h), (1, .int (nI n))]) hx hb dX0_expose_3 rfl hl (by decide) rfl (fun ls hl => ?_)
  refine lv_iconst (v := 0) hx hb dX0_expose_4 (by decide) ?_
  refine lv_istore (lv' := [(4, .int 0), (3, .int (nI n)), (2, .int (-1)), (0, .ref h), (1, .int (nI n))]) hx hb dX0_expose_5 hl (by decide) rfl (fun ls hl => ?_)
  exact t7 24 0 f sv _ _ _ _ ls rfl (pz_EI_0 hI hT hn) hH (lv_sub (l' := [(0, .ref h), (1, .int (nI n)), (2, .int (-1)), (3, .int (nI n)), (4, .int (nI 0))]) hl [3, 4, 2, 1, 0] rfl)
end
section
/-! PLAIN 13: what the twelve calls answer and leave, in the model's words (g: values, parents) -/
def pz_on {α : Type} (d : α) (K : Nat → α) (x : Int32) : α := if x < 0 ∨ 23 < x then d else K x.toNatClampNeg
theorem pz_on_n {α : Type} {d : α} {K : Nat → α} {j : Nat} (h : j < 24) : pz_on d K (nI j) = K j := by
  unfold pz_on
  rw [if_neg ?_, pz_cl h]
  rintro (h1 | h1)
  · exact pz_nlt h h1
  · exact nI_nlt (a := 23) (b := j) (by omega) (by decide) h1
theorem pz_on_b {α : Type} {d : α} {K : Nat → α} {x : Int32} (h : ∀ j, j < 24 → x ≠ nI j) : pz_on d K x = d := by
  unfold pz_on
  rw [if_pos ?_]
  refine Classical.byContradiction fun hn => ?_
  obtain ⟨j, hj, e⟩ := wz_isn (fun z => hn (Or.inl z)) (fun z => hn (Or.inr z))
  exact h j hj e
abbrev pz_O : Type := Int32 × pz_S
def pz_o0 (g : pz_S) (x y : Int32) : pz_O := pz_on (-1, g) (fun c => pz_on (-1, g) (fun p => if g 1 c = -1 ∧ pz_ro g p ≠ c then (0, pz_fu g 1 c (nI p)) else (-1, g)) y) x
def pz_o1 (g : pz_S) (x : Int32) : pz_O := pz_on (-1, g) (fun n => (g 1 n, pz_fu g 1 n (-1))) x
def pz_o2 (g : pz_S) (x : Int32) : pz_O := pz_on (-1, g) (fun n => (nI (pz_ro g n), pz_tu (pz_w g n) g (-1))) x
def pz_o3 (g : pz_S) (x v : Int32) : pz_O := pz_on (0, g) (fun n => (g 0 n, pz_fu g 0 n v)) x
def pz_o4 (g : pz_S) (x v : Int32) : pz_O := pz_on (-1, g) (fun n => (nI (pz_w g n).length, pz_mp g (pz_w g n) v)) x
def pz_o5 (g : pz_S) (x : Int32) : pz_O := pz_on (-1, g) (fun n => (nI (pz_ro g n), g)) x
def pz_o6 (g : pz_S) (x : Int32) : pz_O := pz_on (-1, g) (fun n => (g 1 n, g)) x
def pz_o7 (g : pz_S) (x : Int32) : pz_O := pz_on (-1, g) (fun n => (nI (pz_w g n).length - 1, g)) x
def pz_o8 (g : pz_S) (x : Int32) : pz_O := pz_on (0, g) (fun n => (pz_sl (g 0) (pz_w g n), g)) x
def pz_lf (g : pz_S) : Int32 → List Nat → Int32
  | m, [] => m
  | m, y :: l => pz_lf g (if g 0 y < m then g 0 y else m) l
def pz_o9 (g : pz_S) (x : Int32) : pz_O := pz_on (0, g) (fun n => (pz_lf g (g 0 n) (pz_w g n).tail, g)) x
def pz_o10 (g : pz_S) (x y : Int32) : pz_O := pz_on (-1, g) (fun a => pz_on (-1, g) (fun b => (pz_fi (pz_w g a) (pz_w g b), g)) y) x
def pz_o11 (g : pz_S) (x : Int32) : pz_O := pz_on (0, g) (fun n => (pz_D g n, g)) x
/-- the least value by a loop -/
theorem pz_lf_le {g : pz_S} : ∀ (l : List Nat) (m : Int32), pz_lf g m l ≤ m ∧ (∀ y ∈ l, pz_lf g m l ≤ g 0 y) ∧ (pz_lf g m l = m ∨ ∃ y ∈ l, g 0 y = pz_lf g m l) := by
  intro l
  induction l with
  | nil =>
    intro m
    exact ⟨Int32.le_refl _, fun y hy => (by cases hy), Or.inl rfl⟩
  | cons z l ih =>
    intro m
    by_cases h : g 0 z < m
    · have e : pz_lf g m (z :: l) = pz_lf g (g 0 z) l := by
        show pz_lf g (if g 0 z < m then g 0 z else m) l = _
        rw [if_pos h]
      rw [e]
      obtain ⟨a, b, c⟩ := ih (g 0 z)
      refine ⟨Int32.le_trans a (Int32.le_of_lt h), fun y hy => ?_, Or.inr ?_⟩
      · rcases List.mem_cons.mp hy with e | e
        · rw [e]; exact a
        · exact b y e
      · rcases c with c | ⟨y, hy, c⟩
        · exact ⟨z, List.mem_cons_self, c.symm⟩
        · exact ⟨y, List.mem_cons_of_mem _ hy, c⟩
    · have e : pz_lf g m (z :: l) = pz_lf g m l := by
        show pz_lf g (if g 0 z < m then g 0 z else m) l = _
        rw [if_neg h]
      rw [e]
      obtain ⟨a, b, c⟩ := ih m
      refine ⟨a, fun y hy => ?_, ?_⟩
      · rcases List.mem_cons.mp hy with e | e
        · rw [e]; exact Int32.le_trans a (Int32.not_lt.mp h)
        · exact b y e
      · rcases c with c | ⟨y, hy, c⟩
        · exact Or.inl c
        · exact Or.inr ⟨y, List.mem_cons_of_mem _ hy, c⟩
theorem pz_lf_lw {g : pz_S} {n : Nat} {l : List Nat} : pz_lw g (n :: l) (pz_lf g (g 0 n) l) := by
  obtain ⟨a, b, c⟩ := pz_lf_le (g := g) l (g 0 n)
  refine ⟨?_, fun y hy => ?_⟩
  · rcases c with c | ⟨y, hy, c⟩
    · exact ⟨n, List.mem_cons_self, c.symm⟩
    · exact ⟨y, List.mem_cons_of_mem _ hy, c⟩
  · rcases List.mem_cons.mp hy with e | e
    · rw [e]; exact a
    · exact b y e
/-! the component's side: from what the walks show to the answers -/
section
variable {f g : pz_S} {sv : pz_V} {n : Nat}
theorem pz_X_J (hX : pz_X f sv g n) (hF : pz_Fo g) : pz_J f g := ⟨sv, hX.1, hX.2.1, hF⟩
theorem pz_EP_J {f0 : pz_S} {sv0 : pz_V} {v : Int32} (h : pz_EP f0 sv0 g n v f sv) (hF : pz_Fo g) : pz_J f g := pz_X_J h.1 hF
theorem pz_LP_J {f0 : pz_S} {sv0 : pz_V} (hT : pz_T f0 sv0 g) (hF : pz_Fo g) (h : pz_LP f0 sv0 n f sv) : pz_J f g := ⟨sv, h.1, pz_T_TR hT h.2.1 h.2.2.2.2.2, hF⟩
theorem pz_ans_least (hX : pz_X f sv g n) (hF : pz_Fo g) (hn : n < 24) : f 6 n = pz_lf g (g 0 n) (pz_w g n).tail := by
  obtain ⟨l, e, -⟩ := pz_w_c hF hn
  have h := pz_X_least hX hn
  rw [e] at h ⊢
  exact pz_lw_uniq h pz_lf_lw
theorem pz_rootfree (hF : pz_Fo g) (hn : n < 24) (h : g 1 n = -1) {p : Nat} (hp : p < 24) (hr : pz_ro g p ≠ n) : n ∉ pz_w g p := fun z => hr (by
  rw [← pz_ro_on hF hp z, pz_ro_root hn h])
/-- the node has a parent where the piece's left part isn't empty -/
theorem pz_par_iff (hX : pz_X f sv g n) (hn : n < 24) : f 0 n = -1 ↔ g 1 n = -1 := by
  constructor
  · exact pz_X_p0 hX hn
  · intro h
    rcases (hX.1 n hn).1.1.1 with e | ⟨c, hc, e⟩
    · exact e
    · obtain ⟨p, hp, e1, -⟩ := pz_X_p1 hX hn hc e
      exact absurd (e1.symm.trans h) (pz_nm hp)
theorem pz_X_val (hX : pz_X f sv g n) (hn : n < 24) : f 3 n = g 0 n := by
  obtain ⟨-, h, -⟩ := hX.2.1 n hn hX.2.2.1
  refine h (n, f 3 n) ?_
  rw [pz_X_l hX hn]
  exact List.mem_append_right _ List.mem_cons_self
theorem pz_ro_lt (hF : pz_Fo g) (hn : n < 24) : pz_ro g n < 24 := pz_w_lt hF hn (pz_ro_mem hF hn)
theorem pz_link_end {f1 : pz_S} {sv1 : pz_V} {c p : Nat} {v : Int32} (hX : pz_X f1 sv1 g c) (hF : pz_Fo g) (hc : c < 24) (hp : p < 24) (h0 : f1 0 c = -1) (hr : pz_ro g p ≠ c) (hE : pz_EP f1 sv1 g p v f sv) : pz_J (pz_gth (pz_fu (pz_fu f 2 c (nI p)) 8 p (f 8 p + f 7 c)) p) (pz_fu g 1 c (nI p)) := by
  have hg := pz_X_p0 hX hc h0
  have hnw := pz_rootfree hF hc hg hp hr
  have hs1 : sv1 c = [(c, f1 3 c)] := by
    have := pz_X_l hX hc
    rw [h0, pz_sc_m] at this
    exact this
  obtain ⟨a, b, d⟩ := hE.2.1 c hc hX.2.2.1 (fun y hy => by
    rw [hs1] at hy
    have : y = c := by simpa [pz_id] using hy
    rw [this]
    exact hnw)
  exact pz_link_ok hE.1 hF hp hc a (d.trans hX.2.2.2.1) ⟨_, b.trans hs1⟩ hnw
end
theorem pz_fu_same {f : pz_S} {k i : Nat} {v : Int32} (h : f k i = v) : pz_fu f k i v = f := by
  funext a b
  unfold pz_fu
  split
  · rename_i e
    rw [e.1, e.2]
    exact h.symm
  · rfl
theorem pz_o5_n {g : pz_S} {j : Nat} (h : j < 24) : pz_o5 g (nI j) = (nI (pz_ro g j), g) := pz_on_n h
theorem pz_o6_n {g : pz_S} {j : Nat} (h : j < 24) : pz_o6 g (nI j) = (g 1 j, g) := pz_on_n h
theorem pz_o6_b {g : pz_S} {x : Int32} (h : ∀ j, j < 24 → x ≠ nI j) : pz_o6 g x = (-1, g) := pz_on_b h
theorem pz_node_em (x : Int32) : (∀ j, j < 24 → x ≠ nI j) ∨ ∃ j, j < 24 ∧ x = nI j := by
  by_cases h : ∃ j, j < 24 ∧ x = nI j
  · exact Or.inr h
  · exact Or.inl fun j hj e => h ⟨j, hj, e⟩
end
section
/-! WALK 5: the questions of LinkForest (printed by wip/D-64312w/gen/ask.py) -/
theorem pz_on_bJ {f g : pz_S} {d : Int32} {K : Nat → pz_O} {x : Int32} (hb : ∀ j, j < 24 → x ≠ nI j) (hJ : pz_J f g) : d = (pz_on (d, g) K x).1 ∧ pz_J f (pz_on (d, g) K x).2 := by
  rw [pz_on_b hb]
  exact ⟨rfl, hJ⟩
theorem pz_on_nJ {f : pz_S} {d : pz_O} {K : Nat → pz_O} {j : Nat} {v : Int32} (hj : j < 24) (h1 : v = (K j).1) (h2 : pz_J f (K j).2) : v = (pz_on d K (nI j)).1 ∧ pz_J f (pz_on d K (nI j)).2 := by
  rw [pz_on_n hj]
  exact ⟨h1, h2⟩
theorem pz_on_nbJ {f g : pz_S} {d : Int32} {K : Nat → Nat → pz_O} {a : Nat} {y : Int32} (ha : a < 24) (hb : ∀ j, j < 24 → y ≠ nI j) (hJ : pz_J f g) : d = (pz_on (d, g) (fun c => pz_on (d, g) (K c) y) (nI a)).1 ∧ pz_J f (pz_on (d, g) (fun c => pz_on (d, g) (K c) y) (nI a)).2 := by
  rw [pz_on_n ha]
  exact pz_on_bJ hb hJ
theorem pz_on_nnJ {f : pz_S} {d e : pz_O} {K : Nat → Nat → pz_O} {a b : Nat} {v : Int32} (ha : a < 24) (hb : b < 24) (h1 : v = (K a b).1) (h2 : pz_J f (K a b).2) : v = (pz_on d (fun c => pz_on e (K c) (nI b)) (nI a)).1 ∧ pz_J f (pz_on d (fun c => pz_on e (K c) (nI b)) (nI a)).2 := by
  rw [pz_on_n ha]
  exact pz_on_nJ hb h1 h2
set_option maxHeartbeats 4000000 in
set_option maxRecDepth 100000 in
/-- root -/
theorem wz_root {l : Launch} {D : va_G} {h : Nat} {r : Nat → Nat} {ca : Nat → ClassId} {f : pz_S} {g : pz_S} {x : Int32} (hJ : pz_J f g) : wz_Mi l yX0_root cX0_root 4 .int ({ frames := 5, cells := 0, slots := 0, locals := 119 } : Room) D 0 13 h r wz_e0 ca f [.int x] (fun v f' => v = (pz_o5 g x).1 ∧ pz_J f' (pz_o5 g x).2) := by
  have hJ9 := hJ
  obtain ⟨sv, hI, hT, hF⟩ := hJ9
  refine wz_si (T := TX0) (by decide) (Nat.le_of_ble_eq_true rfl) rfl in_X0 ?_
  intro p e s m args below meth c A ls C hr hlocks hml hl hH
  have C : wz_C p s m args c cX0_root D 0 13 RX0 TX0 wz_e0 ca A := C
  have hx := C.1
  have hb := C.2.1
  have hts := C.2.2.1
  have hl : lv_has ls 4 [(0, .ref h), (1, .int x)] := hl
  refine lv_iload_n hx hb dX0_root_0 rfl (lv_at hl 1 rfl) ?_
  refine wz_cs C hml hl.1 hH (wz_isNode (x := x)) (va_cwS 1 hts (lw_S q67 q68 q11 q69) rfl rfl rfl (by decide +kernel) ⟨Nat.le_of_ble_eq_true rfl, Nat.le_of_ble_eq_true rfl⟩) (Nat.le_of_ble_eq_true rfl) dX0_root_1 ⟨Nat.zero_le _, Nat.zero_le _⟩ (fun v H locs hpv hH => ?_)
  refine lv_if_ne (tgt := 9) hx hb dX0_root_4 (by decide) (fun c4 => ?_) (fun c4 => ?_)
  · obtain ⟨n, hn, exn⟩ := hpv.elim (fun z => z.2) (fun z => absurd z.1 c4)
    subst exn
    refine lv_aload_n hx hb dX0_root_9 rfl (lv_at hl 0 rfl) ?_
    refine lv_iload_n hx hb dX0_root_10 rfl (lv_at hl 1 rfl) ?_
    refine wz_ci C hml hl.1 hH (wz_expose (f := f) hn hI hT hF) (cwV 1 hts (lw_V q74 q76 qs0 q11 q77) rfl rfl rfl (by decide +kernel) ⟨Nat.le_of_ble_eq_true rfl, Nat.le_of_ble_eq_true rfl⟩) rfl rfl (Nat.le_of_ble_eq_true rfl) dX0_root_11 ⟨Nat.zero_le _, Nat.zero_le _⟩ (fun v9 F H locs hp hH => ?_)
    obtain ⟨svF, hEF⟩ := hp
    have hX := hEF.1
    refine lv_pop hx hb dX0_root_14 rfl ?_
    refine lv_iload_n hx hb dX0_root_15 rfl (lv_at hl 1 rfl) ?_
    refine lv_istore_n (lv' := [(2, .int (nI n)), (0, .ref h), (1, .int (nI n))]) hx hb dX0_root_16 rfl hl (by decide) rfl (fun ls hl => ?_)
    refine lv_aload_n hx hb dX0_root_17 rfl (lv_at hl 1 rfl) ?_
    refine lv_iload_n hx hb dX0_root_18 rfl (lv_at hl 0 rfl) ?_
    refine wz_cv C hml hl.1 hH (wz_handDown (f := F) hn hX.1) (cwV 1 hts (lw_V q86 q88 qs3 q11 q89) rfl rfl rfl (by decide +kernel) ⟨Nat.le_of_ble_eq_true rfl, Nat.le_of_ble_eq_true rfl⟩) rfl rfl (Nat.le_of_ble_eq_true rfl) dX0_root_19 ⟨Nat.zero_le _, Nat.zero_le _⟩ (fun F2 H locs hp hH => ?_)
    rw [pz_hd_id hX.2.2.2.2.2.1 hX.2.2.2.2.2.2] at hp
    subst F2
    refine lv_iconst (v := 0) hx hb dX0_root_22 (by decide) ?_
    refine lv_istore_n (lv' := [(3, .int 0), (2, .int (nI n)), (0, .ref h), (1, .int (nI n))]) hx hb dX0_root_23 rfl hl (by decide) rfl (fun ls hl => ?_)
    have t24 : ∀ (z k y : Nat) (G : pz_S) (sv' : pz_V) (H : Heap) (locs : List Loc) (ls : Array Slot), k + z = 24 → pz_RI G sv' g y (pz_ro g n) k → wz_H D 0 13 h r ca G A s.heap H locs → lv_has ls 4 [(0, .ref h), (2, .int (nI y)), (3, .int (nI k))] → W p l e ({ frames := 5, cells := 0, slots := 0, locals := 119 } : Room) s m args below meth c H locs 0 0 (wz_Qi below (fun v f' => v = (pz_o5 g (nI n)).1 ∧ pz_J f' (pz_o5 g (nI n)).2) D 0 13 h r wz_e0 ca A args s) (F0 m 24 ls []) := by
      intro z
      induction z with
      | zero =>
        intro k y G sv' H locs ls hk hR
        exact absurd (pz_RI_b hR) (by omega)
      | succ z ih =>
        intro k y G sv' H locs ls hk hR hH hl
        have hy := hR.2.2.1
        refine lv_iload_n hx hb dX0_root_24 rfl (lv_at hl 2 rfl) ?_
        refine lv_bipush (v := 24) hx hb dX0_root_25 (by decide) ?_
        refine lv_icmp_ge (tgt := 57) hx hb dX0_root_27 (by decide) (fun c27 => ?_) (fun c27 => ?_)
        · exact absurd c27 (nI_ge (a := k) (b := 24) (by omega) (by decide))
        · refine wz_fld C hH hl 0 rfl 0 (by decide) q21 dX0_root_30 dX0_root_31 ?_
          refine lv_iload_n hx hb dX0_root_34 rfl (lv_at hl 1 rfl) ?_
          refine wz_ld C hH 0 (by decide) rfl rfl hy dX0_root_35 ?_
          refine lv_if_lt (tgt := 57) hx hb dX0_root_36 (by decide) (fun c36 => ?_) (fun c36 => ?_)
          · have e0 := pz_P_lt (hR.1 y hy).1.1.1 c36
            refine lv_aload_n hx hb dX0_root_57 rfl (lv_at hl 0 rfl) ?_
            refine lv_iload_n hx hb dX0_root_58 rfl (lv_at hl 1 rfl) ?_
            refine wz_cv C hml hl.1 hH (wz_lift (f := G) hy hR.1) (cwV 1 hts (lw_V q78 q80 qs1 q11 q81) rfl rfl rfl (by decide +kernel) ⟨Nat.le_of_ble_eq_true rfl, Nat.le_of_ble_eq_true rfl⟩) rfl rfl (Nat.le_of_ble_eq_true rfl) dX0_root_59 ⟨Nat.zero_le _, Nat.zero_le _⟩ (fun F2 H locs hp hH => ?_)
            obtain ⟨sv2, hL⟩ := hp
            refine lv_iload_n hx hb dX0_root_62 rfl (lv_at hl 1 rfl) ?_
            exact wz_ri C hr hlocks hH (pz_on_nJ hn (congrArg nI (pz_RI_e hR e0).symm) (pz_LP_J hR.2.1 hF hL)) dX0_root_63
          · obtain ⟨w, hw, e0⟩ := pz_P_ge (hR.1 y hy).1.1.1 c36
            refine wz_fld C hH hl 0 rfl 0 (by decide) q21 dX0_root_39 dX0_root_40 ?_
            refine lv_iload_n hx hb dX0_root_43 rfl (lv_at hl 1 rfl) ?_
            refine wz_ldv (v := (nI w)) C hH 0 (by decide) rfl rfl hy e0 dX0_root_44 ?_
            refine lv_istore_n (lv' := [(2, .int (nI w)), (0, .ref h), (3, .int (nI k))]) hx hb dX0_root_45 rfl hl (by decide) rfl (fun ls hl => ?_)
            refine lv_aload_n hx hb dX0_root_46 rfl (lv_at hl 1 rfl) ?_
            refine lv_iload_n hx hb dX0_root_47 rfl (lv_at hl 0 rfl) ?_
            refine wz_cv C hml hl.1 hH (wz_handDown (f := G) hw hR.1) (cwV 1 hts (lw_V q86 q88 qs3 q11 q89) rfl rfl rfl (by decide +kernel) ⟨Nat.le_of_ble_eq_true rfl, Nat.le_of_ble_eq_true rfl⟩) rfl rfl (Nat.le_of_ble_eq_true rfl) dX0_root_48 ⟨Nat.zero_le _, Nat.zero_le _⟩ (fun F2 H locs hp hH => ?_)
            subst hp
            obtain ⟨sv2, hR2⟩ := pz_RI_s hR hw e0
            refine lv_iinc (v := (nI (k + 1))) (lv' := [(3, .int (nI (k + 1))), (2, .int (nI w)), (0, .ref h)]) hx hb dX0_root_51 hl (k := 2) rfl (nI_1 k) (by decide) rfl (fun ls hl => ?_)
            refine lv_goto (tgt := 24) hx hb dX0_root_54 (by decide) ?_
            exact ih (k + 1) w _ sv2 _ _ ls (by omega) hR2 hH (lv_sub hl [2, 1, 0] rfl)
    exact t24 24 0 n F svF _ _ ls rfl (pz_RI_0 hX hn) hH (lv_sub (l' := [(0, .ref h), (2, .int (nI n)), (3, .int (nI 0))]) hl [2, 1, 0] rfl)
  · have hbadv := hpv.elim (fun z => absurd (z.1.symm.trans c4) (by decide)) (fun z => z.2)
    refine lv_iconst (v := (-1)) hx hb dX0_root_7 (by decide) ?_
    exact wz_ri C hr hlocks hH (pz_on_bJ hbadv hJ) dX0_root_8

set_option maxHeartbeats 4000000 in
set_option maxRecDepth 100000 in
/-- parent -/
theorem wz_parent {l : Launch} {D : va_G} {h : Nat} {r : Nat → Nat} {ca : Nat → ClassId} {f : pz_S} {g : pz_S} {x : Int32} (hJ : pz_J f g) : wz_Mi l yX0_parent cX0_parent 4 .int ({ frames := 5, cells := 0, slots := 0, locals := 119 } : Room) D 0 13 h r wz_e0 ca f [.int x] (fun v f' => v = (pz_o6 g x).1 ∧ pz_J f' (pz_o6 g x).2) := by
  have hJ9 := hJ
  obtain ⟨sv, hI, hT, hF⟩ := hJ9
  refine wz_si (T := TX0) (by decide) (Nat.le_of_ble_eq_true rfl) rfl in_X0 ?_
  intro p e s m args below meth c A ls C hr hlocks hml hl hH
  have C : wz_C p s m args c cX0_parent D 0 13 RX0 TX0 wz_e0 ca A := C
  have hx := C.1
  have hb := C.2.1
  have hts := C.2.2.1
  have hl : lv_has ls 4 [(0, .ref h), (1, .int x)] := hl
  refine lv_iload_n hx hb dX0_parent_0 rfl (lv_at hl 1 rfl) ?_
  refine wz_cs C hml hl.1 hH (wz_isNode (x := x)) (va_cwS 1 hts (lw_S q67 q68 q11 q69) rfl rfl rfl (by decide +kernel) ⟨Nat.le_of_ble_eq_true rfl, Nat.le_of_ble_eq_true rfl⟩) (Nat.le_of_ble_eq_true rfl) dX0_parent_1 ⟨Nat.zero_le _, Nat.zero_le _⟩ (fun v H locs hpv hH => ?_)
  refine lv_if_ne (tgt := 9) hx hb dX0_parent_4 (by decide) (fun c4 => ?_) (fun c4 => ?_)
  · obtain ⟨n, hn, exn⟩ := hpv.elim (fun z => z.2) (fun z => absurd z.1 c4)
    subst exn
    refine lv_aload_n hx hb dX0_parent_9 rfl (lv_at hl 0 rfl) ?_
    refine lv_iload_n hx hb dX0_parent_10 rfl (lv_at hl 1 rfl) ?_
    refine wz_ci C hml hl.1 hH (wz_expose (f := f) hn hI hT hF) (cwV 1 hts (lw_V q74 q76 qs0 q11 q77) rfl rfl rfl (by decide +kernel) ⟨Nat.le_of_ble_eq_true rfl, Nat.le_of_ble_eq_true rfl⟩) rfl rfl (Nat.le_of_ble_eq_true rfl) dX0_parent_11 ⟨Nat.zero_le _, Nat.zero_le _⟩ (fun v9 F H locs hp hH => ?_)
    obtain ⟨svF, hEF⟩ := hp
    have hX := hEF.1
    refine lv_pop hx hb dX0_parent_14 rfl ?_
    refine lv_aload_n hx hb dX0_parent_15 rfl (lv_at hl 0 rfl) ?_
    refine lv_iload_n hx hb dX0_parent_16 rfl (lv_at hl 1 rfl) ?_
    refine wz_cv C hml hl.1 hH (wz_handDown (f := F) hn hX.1) (cwV 1 hts (lw_V q86 q88 qs3 q11 q89) rfl rfl rfl (by decide +kernel) ⟨Nat.le_of_ble_eq_true rfl, Nat.le_of_ble_eq_true rfl⟩) rfl rfl (Nat.le_of_ble_eq_true rfl) dX0_parent_17 ⟨Nat.zero_le _, Nat.zero_le _⟩ (fun F2 H locs hp hH => ?_)
    rw [pz_hd_id hX.2.2.2.2.2.1 hX.2.2.2.2.2.2] at hp
    subst F2
    refine wz_fld C hH hl 0 rfl 0 (by decide) q21 dX0_parent_20 dX0_parent_21 ?_
    refine lv_iload_n hx hb dX0_parent_24 rfl (lv_at hl 1 rfl) ?_
    refine wz_ld C hH 0 (by decide) rfl rfl hn dX0_parent_25 ?_
    refine lv_istore_n (lv' := [(2, .int (F 0 n)), (0, .ref h), (1, .int (nI n))]) hx hb dX0_parent_26 rfl hl (by decide) rfl (fun ls hl => ?_)
    refine lv_iload_n hx hb dX0_parent_27 rfl (lv_at hl 0 rfl) ?_
    refine lv_if_ge (tgt := 33) hx hb dX0_parent_28 (by decide) (fun c28 => ?_) (fun c28 => ?_)
    · obtain ⟨b, hb9, eb⟩ := pz_P_ge (hX.1 n hn).1.1.1 (Int32.not_lt.mpr c28)
      rw [eb] at hl
      refine lv_aload_n hx hb dX0_parent_33 rfl (lv_at hl 1 rfl) ?_
      refine lv_iload_n hx hb dX0_parent_34 rfl (lv_at hl 0 rfl) ?_
      refine wz_cv C hml hl.1 hH (wz_handDown (f := F) hb9 hX.1) (cwV 1 hts (lw_V q86 q88 qs3 q11 q89) rfl rfl rfl (by decide +kernel) ⟨Nat.le_of_ble_eq_true rfl, Nat.le_of_ble_eq_true rfl⟩) rfl rfl (Nat.le_of_ble_eq_true rfl) dX0_parent_35 ⟨Nat.zero_le _, Nat.zero_le _⟩ (fun F2 H locs hp hH => ?_)
      subst hp
      obtain ⟨sv2, q, hq, eq1, hQ⟩ := pz_QI_0 hX hn hb9 eb
      refine lv_iconst (v := 0) hx hb dX0_parent_38 (by decide) ?_
      refine lv_istore_n (lv' := [(3, .int 0), (2, .int (nI b)), (0, .ref h), (1, .int (nI n))]) hx hb dX0_parent_39 rfl hl (by decide) rfl (fun ls hl => ?_)
      have t40 : ∀ (z k y : Nat) (G : pz_S) (sv' : pz_V) (H : Heap) (locs : List Loc) (ls : Array Slot), k + z = 24 → pz_QI G sv' g y q k → wz_H D 0 13 h r ca G A s.heap H locs → lv_has ls 4 [(0, .ref h), (2, .int (nI y)), (3, .int (nI k))] → W p l e ({ frames := 5, cells := 0, slots := 0, locals := 119 } : Room) s m args below meth c H locs 0 0 (wz_Qi below (fun v f' => v = (pz_o6 g (nI n)).1 ∧ pz_J f' (pz_o6 g (nI n)).2) D 0 13 h r wz_e0 ca A args s) (F0 m 40 ls []) := by
        intro z
        induction z with
        | zero =>
          intro k y G sv' H locs ls hk hR
          exact absurd (pz_QI_b hR) (by omega)
        | succ z ih =>
          intro k y G sv' H locs ls hk hR hH hl
          have hy := hR.2.2.1
          refine lv_iload_n hx hb dX0_parent_40 rfl (lv_at hl 2 rfl) ?_
          refine lv_bipush (v := 24) hx hb dX0_parent_41 (by decide) ?_
          refine lv_icmp_ge (tgt := 73) hx hb dX0_parent_43 (by decide) (fun c43 => ?_) (fun c43 => ?_)
          · exact absurd c43 (nI_ge (a := k) (b := 24) (by omega) (by decide))
          · refine wz_fld C hH hl 0 rfl 1 (by decide) q22 dX0_parent_46 dX0_parent_47 ?_
            refine lv_iload_n hx hb dX0_parent_50 rfl (lv_at hl 1 rfl) ?_
            refine wz_ld C hH 1 (by decide) rfl rfl hy dX0_parent_51 ?_
            refine lv_if_lt (tgt := 73) hx hb dX0_parent_52 (by decide) (fun c52 => ?_) (fun c52 => ?_)
            · have e0 := pz_P_lt (hR.1 y hy).1.1.2.1 c52
              refine lv_aload_n hx hb dX0_parent_73 rfl (lv_at hl 0 rfl) ?_
              refine lv_iload_n hx hb dX0_parent_74 rfl (lv_at hl 1 rfl) ?_
              refine wz_cv C hml hl.1 hH (wz_lift (f := G) hy hR.1) (cwV 1 hts (lw_V q78 q80 qs1 q11 q81) rfl rfl rfl (by decide +kernel) ⟨Nat.le_of_ble_eq_true rfl, Nat.le_of_ble_eq_true rfl⟩) rfl rfl (Nat.le_of_ble_eq_true rfl) dX0_parent_75 ⟨Nat.zero_le _, Nat.zero_le _⟩ (fun F2 H locs hp hH => ?_)
              obtain ⟨sv3, hL⟩ := hp
              refine lv_iload_n hx hb dX0_parent_78 rfl (lv_at hl 1 rfl) ?_
              exact wz_ri C hr hlocks hH (pz_on_nJ hn ((congrArg nI (pz_QI_e hR e0).symm).trans eq1.symm) (pz_LP_J hR.2.1 hF hL)) dX0_parent_79
            · obtain ⟨w, hw, e0⟩ := pz_P_ge (hR.1 y hy).1.1.2.1 c52
              refine wz_fld C hH hl 0 rfl 1 (by decide) q22 dX0_parent_55 dX0_parent_56 ?_
              refine lv_iload_n hx hb dX0_parent_59 rfl (lv_at hl 1 rfl) ?_
              refine wz_ldv (v := (nI w)) C hH 1 (by decide) rfl rfl hy e0 dX0_parent_60 ?_
              refine lv_istore_n (lv' := [(2, .int (nI w)), (0, .ref h), (3, .int (nI k))]) hx hb dX0_parent_61 rfl hl (by decide) rfl (fun ls hl => ?_)
              refine lv_aload_n hx hb dX0_parent_62 rfl (lv_at hl 1 rfl) ?_
              refine lv_iload_n hx hb dX0_parent_63 rfl (lv_at hl 0 rfl) ?_
              refine wz_cv C hml hl.1 hH (wz_handDown (f := G) hw hR.1) (cwV 1 hts (lw_V q86 q88 qs3 q11 q89) rfl rfl rfl (by decide +kernel) ⟨Nat.le_of_ble_eq_true rfl, Nat.le_of_ble_eq_true rfl⟩) rfl rfl (Nat.le_of_ble_eq_true rfl) dX0_parent_64 ⟨Nat.zero_le _, Nat.zero_le _⟩ (fun F2 H locs hp hH => ?_)
              subst hp
              obtain ⟨sv3, hR2⟩ := pz_QI_s hR hw e0
              refine lv_iinc (v := (nI (k + 1))) (lv' := [(3, .int (nI (k + 1))), (2, .int (nI w)), (0, .ref h)]) hx hb dX0_parent_67 hl (k := 2) rfl (nI_1 k) (by decide) rfl (fun ls hl => ?_)
              refine lv_goto (tgt := 40) hx hb dX0_parent_70 (by decide) ?_
              exact ih (k + 1) w _ sv3 _ _ ls (by omega) hR2 hH (lv_sub hl [2, 1, 0] rfl)
      exact t40 24 0 b _ sv2 _ _ ls rfl hQ hH (lv_sub (l' := [(0, .ref h), (2, .int (nI b)), (3, .int (nI 0))]) hl [2, 1, 0] rfl)
    · have e0 := pz_P_lt (hX.1 n hn).1.1.1 (Int32.not_le.mp c28)
      refine lv_iconst (v := (-1)) hx hb dX0_parent_31 (by decide) ?_
      exact wz_ri C hr hlocks hH (pz_on_nJ hn (pz_X_p0 hX hn e0).symm (pz_X_J hX hF)) dX0_parent_32
  · have hbadv := hpv.elim (fun z => absurd (z.1.symm.trans c4) (by decide)) (fun z => z.2)
    refine lv_iconst (v := (-1)) hx hb dX0_parent_7 (by decide) ?_
    exact wz_ri C hr hlocks hH (pz_on_bJ hbadv hJ) dX0_parent_8

set_option maxHeartbeats 4000000 in
set_option maxRecDepth 100000 in
/-- depth -/
theorem wz_depth {l : Launch} {D : va_G} {h : Nat} {r : Nat → Nat} {ca : Nat → ClassId} {f : pz_S} {g : pz_S} {x : Int32} (hJ : pz_J f g) : wz_Mi l yX0_depth cX0_depth 2 .int ({ frames := 5, cells := 0, slots := 0, locals := 119 } : Room) D 0 13 h r wz_e0 ca f [.int x] (fun v f' => v = (pz_o7 g x).1 ∧ pz_J f' (pz_o7 g x).2) := by
  have hJ9 := hJ
  obtain ⟨sv, hI, hT, hF⟩ := hJ9
  refine wz_si (T := TX0) (by decide) (Nat.le_of_ble_eq_true rfl) rfl in_X0 ?_
  intro p e s m args below meth c A ls C hr hlocks hml hl hH
  have C : wz_C p s m args c cX0_depth D 0 13 RX0 TX0 wz_e0 ca A := C
  have hx := C.1
  have hb := C.2.1
  have hts := C.2.2.1
  have hl : lv_has ls 2 [(0, .ref h), (1, .int x)] := hl
  refine lv_iload_n hx hb dX0_depth_0 rfl (lv_at hl 1 rfl) ?_
  refine wz_cs C hml hl.1 hH (wz_isNode (x := x)) (va_cwS 1 hts (lw_S q67 q68 q11 q69) rfl rfl rfl (by decide +kernel) ⟨Nat.le_of_ble_eq_true rfl, Nat.le_of_ble_eq_true rfl⟩) (Nat.le_of_ble_eq_true rfl) dX0_depth_1 ⟨Nat.zero_le _, Nat.zero_le _⟩ (fun v H locs hpv hH => ?_)
  refine lv_if_ne (tgt := 9) hx hb dX0_depth_4 (by decide) (fun c4 => ?_) (fun c4 => ?_)
  · obtain ⟨n, hn, exn⟩ := hpv.elim (fun z => z.2) (fun z => absurd z.1 c4)
    subst exn
    refine lv_aload_n hx hb dX0_depth_9 rfl (lv_at hl 0 rfl) ?_
    refine lv_iload_n hx hb dX0_depth_10 rfl (lv_at hl 1 rfl) ?_
    refine wz_ci C hml hl.1 hH (wz_expose (f := f) hn hI hT hF) (cwV 1 hts (lw_V q74 q76 qs0 q11 q77) rfl rfl rfl (by decide +kernel) ⟨Nat.le_of_ble_eq_true rfl, Nat.le_of_ble_eq_true rfl⟩) rfl rfl (Nat.le_of_ble_eq_true rfl) dX0_depth_11 ⟨Nat.zero_le _, Nat.zero_le _⟩ (fun v9 F H locs hp hH => ?_)
    obtain ⟨svF, hEF⟩ := hp
    have hX := hEF.1
    refine lv_pop hx hb dX0_depth_14 rfl ?_
    refine wz_fld C hH hl 0 rfl 4 (by decide) q25 dX0_depth_15 dX0_depth_16 ?_
    refine lv_iload_n hx hb dX0_depth_19 rfl (lv_at hl 1 rfl) ?_
    refine wz_ld C hH 4 (by decide) rfl rfl hn dX0_depth_20 ?_
    refine lv_iconst (v := 1) hx hb dX0_depth_21 (by decide) ?_
    refine lv_isub hx hb dX0_depth_22 ?_
    exact wz_ri C hr hlocks hH (pz_on_nJ hn (congrArg (· - 1) (pz_X_size hX hn)) (pz_X_J hX hF)) dX0_depth_23
  · have hbadv := hpv.elim (fun z => absurd (z.1.symm.trans c4) (by decide)) (fun z => z.2)
    refine lv_iconst (v := (-1)) hx hb dX0_depth_7 (by decide) ?_
    exact wz_ri C hr hlocks hH (pz_on_bJ hbadv hJ) dX0_depth_8

set_option maxHeartbeats 4000000 in
set_option maxRecDepth 100000 in
/-- sumUp -/
theorem wz_sumUp {l : Launch} {D : va_G} {h : Nat} {r : Nat → Nat} {ca : Nat → ClassId} {f : pz_S} {g : pz_S} {x : Int32} (hJ : pz_J f g) : wz_Mi l yX0_sumUp cX0_sumUp 2 .int ({ frames := 5, cells := 0, slots := 0, locals := 119 } : Room) D 0 13 h r wz_e0 ca f [.int x] (fun v f' => v = (pz_o8 g x).1 ∧ pz_J f' (pz_o8 g x).2) := by
  have hJ9 := hJ
  obtain ⟨sv, hI, hT, hF⟩ := hJ9
  refine wz_si (T := TX0) (by decide) (Nat.le_of_ble_eq_true rfl) rfl in_X0 ?_
  intro p e s m args below meth c A ls C hr hlocks hml hl hH
  have C : wz_C p s m args c cX0_sumUp D 0 13 RX0 TX0 wz_e0 ca A := C
  have hx := C.1
  have hb := C.2.1
  have hts := C.2.2.1
  have hl : lv_has ls 2 [(0, .ref h), (1, .int x)] := hl
  refine lv_iload_n hx hb dX0_sumUp_0 rfl (lv_at hl 1 rfl) ?_
  refine wz_cs C hml hl.1 hH (wz_isNode (x := x)) (va_cwS 1 hts (lw_S q67 q68 q11 q69) rfl rfl rfl (by decide +kernel) ⟨Nat.le_of_ble_eq_true rfl, Nat.le_of_ble_eq_true rfl⟩) (Nat.le_of_ble_eq_true rfl) dX0_sumUp_1 ⟨Nat.zero_le _, Nat.zero_le _⟩ (fun v H locs hpv hH => ?_)
  refine lv_if_ne (tgt := 9) hx hb dX0_sumUp_4 (by decide) (fun c4 => ?_) (fun c4 => ?_)
  · obtain ⟨n, hn, exn⟩ := hpv.elim (fun z => z.2) (fun z => absurd z.1 c4)
    subst exn
    refine lv_aload_n hx hb dX0_sumUp_9 rfl (lv_at hl 0 rfl) ?_
    refine lv_iload_n hx hb dX0_sumUp_10 rfl (lv_at hl 1 rfl) ?_
    refine wz_ci C hml hl.1 hH (wz_expose (f := f) hn hI hT hF) (cwV 1 hts (lw_V q74 q76 qs0 q11 q77) rfl rfl rfl (by decide +kernel) ⟨Nat.le_of_ble_eq_true rfl, Nat.le_of_ble_eq_true rfl⟩) rfl rfl (Nat.le_of_ble_eq_true rfl) dX0_sumUp_11 ⟨Nat.zero_le _, Nat.zero_le _⟩ (fun v9 F H locs hp hH => ?_)
    obtain ⟨svF, hEF⟩ := hp
    have hX := hEF.1
    refine lv_pop hx hb dX0_sumUp_14 rfl ?_
    refine wz_fld C hH hl 0 rfl 5 (by decide) q26 dX0_sumUp_15 dX0_sumUp_16 ?_
    refine lv_iload_n hx hb dX0_sumUp_19 rfl (lv_at hl 1 rfl) ?_
    refine wz_ld C hH 5 (by decide) rfl rfl hn dX0_sumUp_20 ?_
    exact wz_ri C hr hlocks hH (pz_on_nJ hn (pz_X_sum hX hn) (pz_X_J hX hF)) dX0_sumUp_21
  · have hbadv := hpv.elim (fun z => absurd (z.1.symm.trans c4) (by decide)) (fun z => z.2)
    refine lv_iconst (v := 0) hx hb dX0_sumUp_7 (by decide) ?_
    exact wz_ri C hr hlocks hH (pz_on_bJ hbadv hJ) dX0_sumUp_8

set_option maxHeartbeats 4000000 in
set_option maxRecDepth 100000 in
/-- leastUp -/
theorem wz_leastUp {l : Launch} {D : va_G} {h : Nat} {r : Nat → Nat} {ca : Nat → ClassId} {f : pz_S} {g : pz_S} {x : Int32} (hJ : pz_J f g) : wz_Mi l yX0_leastUp cX0_leastUp 2 .int ({ frames := 5, cells := 0, slots := 0, locals := 119 } : Room) D 0 13 h r wz_e0 ca f [.int x] (fun v f' => v = (pz_o9 g x).1 ∧ pz_J f' (pz_o9 g x).2) := by
  have hJ9 := hJ
  obtain ⟨sv, hI, hT, hF⟩ := hJ9
  refine wz_si (T := TX0) (by decide) (Nat.le_of_ble_eq_true rfl) rfl in_X0 ?_
  intro p e s m args below meth c A ls C hr hlocks hml hl hH
  have C : wz_C p s m args c cX0_leastUp D 0 13 RX0 TX0 wz_e0 ca A := C
  have hx := C.1
  have hb := C.2.1
  have hts := C.2.2.1
  have hl : lv_has ls 2 [(0, .ref h), (1, .int x)] := hl
  refine lv_iload_n hx hb dX0_leastUp_0 rfl (lv_at hl 1 rfl) ?_
  refine wz_cs C hml hl.1 hH (wz_isNode (x := x)) (va_cwS 1 hts (lw_S q67 q68 q11 q69) rfl rfl rfl (by decide +kernel) ⟨Nat.le_of_ble_eq_true rfl, Nat.le_of_ble_eq_true rfl⟩) (Nat.le_of_ble_eq_true rfl) dX0_leastUp_1 ⟨Nat.zero_le _, Nat.zero_le _⟩ (fun v H locs hpv hH => ?_)
  refine lv_if_ne (tgt := 9) hx hb dX0_leastUp_4 (by decide) (fun c4 => ?_) (fun c4 => ?_)
  · obtain ⟨n, hn, exn⟩ := hpv.elim (fun z => z.2) (fun z => absurd z.1 c4)
    subst exn
    refine lv_aload_n hx hb dX0_leastUp_9 rfl (lv_at hl 0 rfl) ?_
    refine lv_iload_n hx hb dX0_leastUp_10 rfl (lv_at hl 1 rfl) ?_
    refine wz_ci C hml hl.1 hH (wz_expose (f := f) hn hI hT hF) (cwV 1 hts (lw_V q74 q76 qs0 q11 q77) rfl rfl rfl (by decide +kernel) ⟨Nat.le_of_ble_eq_true rfl, Nat.le_of_ble_eq_true rfl⟩) rfl rfl (Nat.le_of_ble_eq_true rfl) dX0_leastUp_11 ⟨Nat.zero_le _, Nat.zero_le _⟩ (fun v9 F H locs hp hH => ?_)
    obtain ⟨svF, hEF⟩ := hp
    have hX := hEF.1
    refine lv_pop hx hb dX0_leastUp_14 rfl ?_
    refine wz_fld C hH hl 0 rfl 6 (by decide) q27 dX0_leastUp_15 dX0_leastUp_16 ?_
    refine lv_iload_n hx hb dX0_leastUp_19 rfl (lv_at hl 1 rfl) ?_
    refine wz_ld C hH 6 (by decide) rfl rfl hn dX0_leastUp_20 ?_
    exact wz_ri C hr hlocks hH (pz_on_nJ hn (pz_ans_least hX hF hn) (pz_X_J hX hF)) dX0_leastUp_21
  · have hbadv := hpv.elim (fun z => absurd (z.1.symm.trans c4) (by decide)) (fun z => z.2)
    refine lv_iconst (v := 0) hx hb dX0_leastUp_7 (by decide) ?_
    exact wz_ri C hr hlocks hH (pz_on_bJ hbadv hJ) dX0_leastUp_8

set_option maxHeartbeats 4000000 in
set_option maxRecDepth 100000 in
/-- sumPart -/
theorem wz_sumPart {l : Launch} {D : va_G} {h : Nat} {r : Nat → Nat} {ca : Nat → ClassId} {f : pz_S} {g : pz_S} {x : Int32} (hJ : pz_J f g) : wz_Mi l yX0_sumPart cX0_sumPart 2 .int ({ frames := 5, cells := 0, slots := 0, locals := 119 } : Room) D 0 13 h r wz_e0 ca f [.int x] (fun v f' => v = (pz_o11 g x).1 ∧ pz_J f' (pz_o11 g x).2) := by
  have hJ9 := hJ
  obtain ⟨sv, hI, hT, hF⟩ := hJ9
  refine wz_si (T := TX0) (by decide) (Nat.le_of_ble_eq_true rfl) rfl in_X0 ?_
  intro p e s m args below meth c A ls C hr hlocks hml hl hH
  have C : wz_C p s m args c cX0_sumPart D 0 13 RX0 TX0 wz_e0 ca A := C
  have hx := C.1
  have hb := C.2.1
  have hts := C.2.2.1
  have hl : lv_has ls 2 [(0, .ref h), (1, .int x)] := hl
  refine lv_iload_n hx hb dX0_sumPart_0 rfl (lv_at hl 1 rfl) ?_
  refine wz_cs C hml hl.1 hH (wz_isNode (x := x)) (va_cwS 1 hts (lw_S q67 q68 q11 q69) rfl rfl rfl (by decide +kernel) ⟨Nat.le_of_ble_eq_true rfl, Nat.le_of_ble_eq_true rfl⟩) (Nat.le_of_ble_eq_true rfl) dX0_sumPart_1 ⟨Nat.zero_le _, Nat.zero_le _⟩ (fun v H locs hpv hH => ?_)
  refine lv_if_ne (tgt := 9) hx hb dX0_sumPart_4 (by decide) (fun c4 => ?_) (fun c4 => ?_)
  · obtain ⟨n, hn, exn⟩ := hpv.elim (fun z => z.2) (fun z => absurd z.1 c4)
    subst exn
    refine lv_aload_n hx hb dX0_sumPart_9 rfl (lv_at hl 0 rfl) ?_
    refine lv_iload_n hx hb dX0_sumPart_10 rfl (lv_at hl 1 rfl) ?_
    refine wz_ci C hml hl.1 hH (wz_expose (f := f) hn hI hT hF) (cwV 1 hts (lw_V q74 q76 qs0 q11 q77) rfl rfl rfl (by decide +kernel) ⟨Nat.le_of_ble_eq_true rfl, Nat.le_of_ble_eq_true rfl⟩) rfl rfl (Nat.le_of_ble_eq_true rfl) dX0_sumPart_11 ⟨Nat.zero_le _, Nat.zero_le _⟩ (fun v9 F H locs hp hH => ?_)
    obtain ⟨svF, hEF⟩ := hp
    have hX := hEF.1
    refine lv_pop hx hb dX0_sumPart_14 rfl ?_
    refine wz_fld C hH hl 0 rfl 3 (by decide) q24 dX0_sumPart_15 dX0_sumPart_16 ?_
    refine lv_iload_n hx hb dX0_sumPart_19 rfl (lv_at hl 1 rfl) ?_
    refine wz_ld C hH 3 (by decide) rfl rfl hn dX0_sumPart_20 ?_
    refine wz_fld C hH hl 0 rfl 8 (by decide) q29 dX0_sumPart_21 dX0_sumPart_22 ?_
    refine lv_iload_n hx hb dX0_sumPart_25 rfl (lv_at hl 1 rfl) ?_
    refine wz_ld C hH 8 (by decide) rfl rfl hn dX0_sumPart_26 ?_
    refine lv_iadd hx hb dX0_sumPart_27 ?_
    exact wz_ri C hr hlocks hH (pz_on_nJ hn (pz_X_part hX hn) (pz_X_J hX hF)) dX0_sumPart_28
  · have hbadv := hpv.elim (fun z => absurd (z.1.symm.trans c4) (by decide)) (fun z => z.2)
    refine lv_iconst (v := 0) hx hb dX0_sumPart_7 (by decide) ?_
    exact wz_ri C hr hlocks hH (pz_on_bJ hbadv hJ) dX0_sumPart_8

set_option maxHeartbeats 4000000 in
set_option maxRecDepth 100000 in
/-- meet -/
theorem wz_meet {l : Launch} {D : va_G} {h : Nat} {r : Nat → Nat} {ca : Nat → ClassId} {f : pz_S} {g : pz_S} {x y : Int32} (hJ : pz_J f g) : wz_Mi l yX0_meet cX0_meet 5 .int ({ frames := 6, cells := 0, slots := 0, locals := 142 } : Room) D 0 13 h r wz_e0 ca f [.int x, .int y] (fun v f' => v = (pz_o10 g x y).1 ∧ pz_J f' (pz_o10 g x y).2) := by
  have hJ9 := hJ
  obtain ⟨sv, hI, hT, hF⟩ := hJ9
  refine wz_si (T := TX0) (by decide) (Nat.le_of_ble_eq_true rfl) rfl in_X0 ?_
  intro p e s m args below meth c A ls C hr hlocks hml hl hH
  have C : wz_C p s m args c cX0_meet D 0 13 RX0 TX0 wz_e0 ca A := C
  have hx := C.1
  have hb := C.2.1
  have hts := C.2.2.1
  have hl : lv_has ls 5 [(0, .ref h), (1, .int x), (2, .int y)] := hl
  refine lv_iload_n hx hb dX0_meet_0 rfl (lv_at hl 1 rfl) ?_
  refine wz_cs C hml hl.1 hH (wz_isNode (x := x)) (va_cwS 1 hts (lw_S q67 q68 q11 q69) rfl rfl rfl (by decide +kernel) ⟨Nat.le_of_ble_eq_true rfl, Nat.le_of_ble_eq_true rfl⟩) (Nat.le_of_ble_eq_true rfl) dX0_meet_1 ⟨Nat.zero_le _, Nat.zero_le _⟩ (fun v H locs hpv hH => ?_)
  refine lv_if_eq (tgt := 14) hx hb dX0_meet_4 (by decide) (fun c4 => ?_) (fun c4 => ?_)
  · have hbadv := hpv.elim (fun z => absurd (z.1.symm.trans c4) (by decide)) (fun z => z.2)
    refine lv_iconst (v := (-1)) hx hb dX0_meet_14 (by decide) ?_
    exact wz_ri C hr hlocks hH (pz_on_bJ hbadv hJ) dX0_meet_15
  · obtain ⟨a, ha, exa⟩ := hpv.elim (fun z => z.2) (fun z => absurd z.1 c4)
    subst exa
    refine lv_iload_n hx hb dX0_meet_7 rfl (lv_at hl 2 rfl) ?_
    refine wz_cs C hml hl.1 hH (wz_isNode (x := y)) (va_cwS 1 hts (lw_S q67 q68 q11 q69) rfl rfl rfl (by decide +kernel) ⟨Nat.le_of_ble_eq_true rfl, Nat.le_of_ble_eq_true rfl⟩) (Nat.le_of_ble_eq_true rfl) dX0_meet_8 ⟨Nat.zero_le _, Nat.zero_le _⟩ (fun w H locs hpw hH => ?_)
    refine lv_if_ne (tgt := 16) hx hb dX0_meet_11 (by decide) (fun c11 => ?_) (fun c11 => ?_)
    · obtain ⟨b, hb9, exb⟩ := hpw.elim (fun z => z.2) (fun z => absurd z.1 c11)
      subst exb
      refine lv_aload_n hx hb dX0_meet_16 rfl (lv_at hl 0 rfl) ?_
      refine lv_iload_n hx hb dX0_meet_17 rfl (lv_at hl 1 rfl) ?_
      refine wz_ci C hml hl.1 hH (wz_root (f := f) (x := (nI a)) hJ) (cwV 1 hts (lw_V q70 q71 q72 q11 q73) rfl rfl rfl (by decide +kernel) ⟨Nat.le_of_ble_eq_true rfl, Nat.le_of_ble_eq_true rfl⟩) rfl rfl (Nat.le_of_ble_eq_true rfl) dX0_meet_18 ⟨Nat.zero_le _, Nat.zero_le _⟩ (fun u1 F1 H locs hp hH => ?_)
      rw [pz_o5_n ha] at hp
      obtain ⟨eu1, hJF1⟩ := hp
      subst eu1
      refine lv_istore_n (lv' := [(3, .int (nI (pz_ro g a))), (0, .ref h), (1, .int (nI a)), (2, .int (nI b))]) hx hb dX0_meet_21 rfl hl (by decide) rfl (fun ls hl => ?_)
      refine lv_aload_n hx hb dX0_meet_22 rfl (lv_at hl 1 rfl) ?_
      refine lv_iload_n hx hb dX0_meet_23 rfl (lv_at hl 3 rfl) ?_
      refine wz_ci C hml hl.1 hH (wz_root (f := F1) (x := (nI b)) hJF1) (cwV 1 hts (lw_V q70 q71 q72 q11 q73) rfl rfl rfl (by decide +kernel) ⟨Nat.le_of_ble_eq_true rfl, Nat.le_of_ble_eq_true rfl⟩) rfl rfl (Nat.le_of_ble_eq_true rfl) dX0_meet_24 ⟨Nat.zero_le _, Nat.zero_le _⟩ (fun u2 F2 H locs hp hH => ?_)
      rw [pz_o5_n hb9] at hp
      obtain ⟨eu2, hJF2⟩ := hp
      subst eu2
      refine lv_istore (lv' := [(4, .int (nI (pz_ro g b))), (3, .int (nI (pz_ro g a))), (0, .ref h), (1, .int (nI a)), (2, .int (nI b))]) hx hb dX0_meet_27 hl (by decide) rfl (fun ls hl => ?_)
      refine lv_iload_n hx hb dX0_meet_29 rfl (lv_at hl 1 rfl) ?_
      refine lv_iload hx hb dX0_meet_30 (lv_at hl 0 rfl) ?_
      refine lv_icmp_eq (tgt := 37) hx hb dX0_meet_32 (by decide) (fun c32 => ?_) (fun c32 => ?_)
      · have hro : pz_ro g a = pz_ro g b := pz_inj (pz_ro_lt hF ha) (pz_ro_lt hF hb9) c32
        obtain ⟨sv2, hI2, hT2, -⟩ := hJF2
        refine lv_aload_n hx hb dX0_meet_37 rfl (lv_at hl 2 rfl) ?_
        refine lv_iload_n hx hb dX0_meet_38 rfl (lv_at hl 3 rfl) ?_
        refine wz_ci C hml hl.1 hH (wz_expose (f := F2) ha hI2 hT2 hF) (cwV 1 hts (lw_V q74 q76 qs0 q11 q77) rfl rfl rfl (by decide +kernel) ⟨Nat.le_of_ble_eq_true rfl, Nat.le_of_ble_eq_true rfl⟩) rfl rfl (Nat.le_of_ble_eq_true rfl) dX0_meet_39 ⟨Nat.zero_le _, Nat.zero_le _⟩ (fun vF3 F3 H locs hp hH => ?_)
        obtain ⟨svF3, hEF3⟩ := hp
        have hXF3 := hEF3.1
        refine lv_pop hx hb dX0_meet_42 rfl ?_
        refine lv_aload_n hx hb dX0_meet_43 rfl (lv_at hl 2 rfl) ?_
        refine lv_iload_n hx hb dX0_meet_44 rfl (lv_at hl 4 rfl) ?_
        refine wz_ci C hml hl.1 hH (wz_expose (f := F3) hb9 hXF3.1 hXF3.2.1 hF) (cwV 1 hts (lw_V q74 q76 qs0 q11 q77) rfl rfl rfl (by decide +kernel) ⟨Nat.le_of_ble_eq_true rfl, Nat.le_of_ble_eq_true rfl⟩) rfl rfl (Nat.le_of_ble_eq_true rfl) dX0_meet_45 ⟨Nat.zero_le _, Nat.zero_le _⟩ (fun vF4 F4 H locs hp hH => ?_)
        obtain ⟨svF4, hEF4⟩ := hp
        have hXF4 := hEF4.1
        exact wz_ri C hr hlocks hH (pz_on_nnJ ha hb9 (pz_meet hF ha hb9 hXF3 hEF4 hro) (pz_EP_J hEF4 hF)) dX0_meet_48
      · have hne : pz_ro g a ≠ pz_ro g b := fun z => c32 (congrArg nI z)
        refine lv_iconst (v := (-1)) hx hb dX0_meet_35 (by decide) ?_
        exact wz_ri C hr hlocks hH (pz_on_nnJ ha hb9 (pz_meet_no hF ha hb9 hne).symm hJF2) dX0_meet_36
    · have hbadw := hpw.elim (fun z => absurd (z.1.symm.trans c11) (by decide)) (fun z => z.2)
      refine lv_iconst (v := (-1)) hx hb dX0_meet_14 (by decide) ?_
      exact wz_ri C hr hlocks hH (pz_on_nbJ ha hbadw hJ) dX0_meet_15
end
section
/-! WALK 6: what LinkForest does (printed by wip/D-64312w/gen/ask.py) -/
set_option maxHeartbeats 4000000 in
set_option maxRecDepth 100000 in
/-- link -/
theorem wz_link {l : Launch} {D : va_G} {h : Nat} {r : Nat → Nat} {ca : Nat → ClassId} {f : pz_S} {g : pz_S} {x y : Int32} (hJ : pz_J f g) : wz_Mi l yX0_link cX0_link 4 .int ({ frames := 6, cells := 0, slots := 0, locals := 142 } : Room) D 0 13 h r wz_e0 ca f [.int x, .int y] (fun v f' => v = (pz_o0 g x y).1 ∧ pz_J f' (pz_o0 g x y).2) := by
  have hJ9 := hJ
  obtain ⟨sv, hI, hT, hF⟩ := hJ9
  refine wz_si (T := TX0) (by decide) (Nat.le_of_ble_eq_true rfl) rfl in_X0 ?_
  intro p e s m args below meth c A ls C hr hlocks hml hl hH
  have C : wz_C p s m args c cX0_link D 0 13 RX0 TX0 wz_e0 ca A := C
  have hx := C.1
  have hb := C.2.1
  have hts := C.2.2.1
  have hl : lv_has ls 4 [(0, .ref h), (1, .int x), (2, .int y)] := hl
  refine lv_iload_n hx hb dX0_link_0 rfl (lv_at hl 1 rfl) ?_
  refine wz_cs C hml hl.1 hH (wz_isNode (x := x)) (va_cwS 1 hts (lw_S q67 q68 q11 q69) rfl rfl rfl (by decide +kernel) ⟨Nat.le_of_ble_eq_true rfl, Nat.le_of_ble_eq_true rfl⟩) (Nat.le_of_ble_eq_true rfl) dX0_link_1 ⟨Nat.zero_le _, Nat.zero_le _⟩ (fun v H locs hpv hH => ?_)
  refine lv_if_eq (tgt := 14) hx hb dX0_link_4 (by decide) (fun c4 => ?_) (fun c4 => ?_)
  · have hbadv := hpv.elim (fun z => absurd (z.1.symm.trans c4) (by decide)) (fun z => z.2)
    refine lv_iconst (v := (-1)) hx hb dX0_link_14 (by decide) ?_
    exact wz_ri C hr hlocks hH (pz_on_bJ hbadv hJ) dX0_link_15
  · obtain ⟨a, ha, exa⟩ := hpv.elim (fun z => z.2) (fun z => absurd z.1 c4)
    subst exa
    refine lv_iload_n hx hb dX0_link_7 rfl (lv_at hl 2 rfl) ?_
    refine wz_cs C hml hl.1 hH (wz_isNode (x := y)) (va_cwS 1 hts (lw_S q67 q68 q11 q69) rfl rfl rfl (by decide +kernel) ⟨Nat.le_of_ble_eq_true rfl, Nat.le_of_ble_eq_true rfl⟩) (Nat.le_of_ble_eq_true rfl) dX0_link_8 ⟨Nat.zero_le _, Nat.zero_le _⟩ (fun w H locs hpw hH => ?_)
    refine lv_if_ne (tgt := 16) hx hb dX0_link_11 (by decide) (fun c11 => ?_) (fun c11 => ?_)
    · obtain ⟨b, hb9, exb⟩ := hpw.elim (fun z => z.2) (fun z => absurd z.1 c11)
      subst exb
      refine lv_aload_n hx hb dX0_link_16 rfl (lv_at hl 0 rfl) ?_
      refine lv_iload_n hx hb dX0_link_17 rfl (lv_at hl 2 rfl) ?_
      refine wz_ci C hml hl.1 hH (wz_root (f := f) (x := (nI b)) hJ) (cwV 1 hts (lw_V q70 q71 q72 q11 q73) rfl rfl rfl (by decide +kernel) ⟨Nat.le_of_ble_eq_true rfl, Nat.le_of_ble_eq_true rfl⟩) rfl rfl (Nat.le_of_ble_eq_true rfl) dX0_link_18 ⟨Nat.zero_le _, Nat.zero_le _⟩ (fun u1 F1 H locs hp hH => ?_)
      rw [pz_o5_n hb9] at hp
      obtain ⟨eu1, hJF1⟩ := hp
      subst eu1
      refine lv_istore_n (lv' := [(3, .int (nI (pz_ro g b))), (0, .ref h), (1, .int (nI a)), (2, .int (nI b))]) hx hb dX0_link_21 rfl hl (by decide) rfl (fun ls hl => ?_)
      obtain ⟨sv1, hI1, hT1, -⟩ := hJF1
      refine lv_aload_n hx hb dX0_link_22 rfl (lv_at hl 1 rfl) ?_
      refine lv_iload_n hx hb dX0_link_23 rfl (lv_at hl 2 rfl) ?_
      refine wz_ci C hml hl.1 hH (wz_expose (f := F1) ha hI1 hT1 hF) (cwV 1 hts (lw_V q74 q76 qs0 q11 q77) rfl rfl rfl (by decide +kernel) ⟨Nat.le_of_ble_eq_true rfl, Nat.le_of_ble_eq_true rfl⟩) rfl rfl (Nat.le_of_ble_eq_true rfl) dX0_link_24 ⟨Nat.zero_le _, Nat.zero_le _⟩ (fun vF2 F2 H locs hp hH => ?_)
      obtain ⟨svF2, hEF2⟩ := hp
      have hXF2 := hEF2.1
      refine lv_pop hx hb dX0_link_27 rfl ?_
      refine wz_fld C hH hl 1 rfl 0 (by decide) q21 dX0_link_28 dX0_link_29 ?_
      refine lv_iload_n hx hb dX0_link_32 rfl (lv_at hl 2 rfl) ?_
      refine wz_ld C hH 0 (by decide) rfl rfl ha dX0_link_33 ?_
      refine lv_if_ge (tgt := 42) hx hb dX0_link_34 (by decide) (fun c34 => ?_) (fun c34 => ?_)
      · have hno : ¬ (g 1 a = -1 ∧ pz_ro g b ≠ a) := fun z => absurd c34 (by rw [(pz_par_iff hXF2 ha).mpr z.1]; decide)
        refine lv_iconst (v := (-1)) hx hb dX0_link_42 (by decide) ?_
        exact wz_ri C hr hlocks hH (pz_on_nnJ ha hb9 (by rw [if_neg hno]) (by rw [if_neg hno]; exact pz_X_J hXF2 hF)) dX0_link_43
      · have h0 : F2 0 a = -1 := pz_P_lt (hXF2.1 a ha).1.1.1 (Int32.not_le.mp c34)
        refine lv_iload_n hx hb dX0_link_37 rfl (lv_at hl 0 rfl) ?_
        refine lv_iload_n hx hb dX0_link_38 rfl (lv_at hl 2 rfl) ?_
        refine lv_icmp_ne (tgt := 44) hx hb dX0_link_39 (by decide) (fun c39 => ?_) (fun c39 => ?_)
        · have hne : pz_ro g b ≠ a := fun z => c39 (congrArg nI z)
          refine lv_aload_n hx hb dX0_link_44 rfl (lv_at hl 1 rfl) ?_
          refine lv_iload_n hx hb dX0_link_45 rfl (lv_at hl 3 rfl) ?_
          refine wz_ci C hml hl.1 hH (wz_expose (f := F2) hb9 hXF2.1 hXF2.2.1 hF) (cwV 1 hts (lw_V q74 q76 qs0 q11 q77) rfl rfl rfl (by decide +kernel) ⟨Nat.le_of_ble_eq_true rfl, Nat.le_of_ble_eq_true rfl⟩) rfl rfl (Nat.le_of_ble_eq_true rfl) dX0_link_46 ⟨Nat.zero_le _, Nat.zero_le _⟩ (fun vF3 F3 H locs hp hH => ?_)
          obtain ⟨svF3, hEF3⟩ := hp
          have hXF3 := hEF3.1
          refine lv_pop hx hb dX0_link_49 rfl ?_
          refine wz_fld C hH hl 1 rfl 2 (by decide) q23 dX0_link_50 dX0_link_51 ?_
          refine lv_iload_n hx hb dX0_link_54 rfl (lv_at hl 2 rfl) ?_
          refine lv_iload_n hx hb dX0_link_55 rfl (lv_at hl 3 rfl) ?_
          refine wz_st C hH 2 (by decide) rfl rfl ha dX0_link_56 (fun H locs hH => ?_)
          refine wz_fld C hH hl 1 rfl 8 (by decide) q29 dX0_link_57 dX0_link_58 ?_
          refine lv_iload_n hx hb dX0_link_61 rfl (lv_at hl 3 rfl) ?_
          refine lv_dup2_11 hx hb dX0_link_62 rfl rfl ?_
          refine wz_ldv (v := (F3 8 b)) C hH 8 (by decide) rfl rfl hb9 (by rw [pz_fu_k (by decide)]) dX0_link_63 ?_
          refine wz_fld C hH hl 1 rfl 7 (by decide) q28 dX0_link_64 dX0_link_65 ?_
          refine lv_iload_n hx hb dX0_link_68 rfl (lv_at hl 2 rfl) ?_
          refine wz_ldv (v := (F3 7 a)) C hH 7 (by decide) rfl rfl ha (by rw [pz_fu_k (by decide)]) dX0_link_69 ?_
          refine lv_iadd hx hb dX0_link_70 ?_
          refine wz_st C hH 8 (by decide) rfl rfl hb9 dX0_link_71 (fun H locs hH => ?_)
          refine lv_aload_n hx hb dX0_link_72 rfl (lv_at hl 1 rfl) ?_
          refine lv_iload_n hx hb dX0_link_73 rfl (lv_at hl 3 rfl) ?_
          have Q0 : pz_P ((pz_fu (pz_fu F3 2 a (nI b)) 8 b ((F3 8 b) + (F3 7 a))) 0 b) := by rw [pz_fu_k (by decide), pz_fu_k (by decide)]; exact (hXF3.1 b hb9).1.1.1
          have Q1 : pz_P ((pz_fu (pz_fu F3 2 a (nI b)) 8 b ((F3 8 b) + (F3 7 a))) 1 b) := by rw [pz_fu_k (by decide), pz_fu_k (by decide)]; exact (hXF3.1 b hb9).1.1.2.1
          refine wz_cv C hml hl.1 hH (wz_gather (f := (pz_fu (pz_fu F3 2 a (nI b)) 8 b ((F3 8 b) + (F3 7 a)))) hb9 Q0 Q1) (cwV 1 hts (lw_V q102 q104 qs7 q11 q105) rfl rfl rfl (by decide +kernel) ⟨Nat.le_of_ble_eq_true rfl, Nat.le_of_ble_eq_true rfl⟩) rfl rfl (Nat.le_of_ble_eq_true rfl) dX0_link_74 ⟨Nat.zero_le _, Nat.zero_le _⟩ (fun F9 H locs hp hH => ?_)
          subst hp
          refine lv_iconst (v := 0) hx hb dX0_link_77 (by decide) ?_
          exact wz_ri C hr hlocks hH (pz_on_nnJ ha hb9 (by rw [if_pos ⟨pz_X_p0 hXF2 ha h0, hne⟩]) (by rw [if_pos ⟨pz_X_p0 hXF2 ha h0, hne⟩]; exact pz_link_end hXF2 hF ha hb9 h0 hne hEF3)) dX0_link_78
        · have hno : ¬ (g 1 a = -1 ∧ pz_ro g b ≠ a) := fun z => z.2 (pz_inj (pz_ro_lt hF hb9) ha c39)
          refine lv_iconst (v := (-1)) hx hb dX0_link_42 (by decide) ?_
          exact wz_ri C hr hlocks hH (pz_on_nnJ ha hb9 (by rw [if_neg hno]) (by rw [if_neg hno]; exact pz_X_J hXF2 hF)) dX0_link_43
    · have hbadw := hpw.elim (fun z => absurd (z.1.symm.trans c11) (by decide)) (fun z => z.2)
      refine lv_iconst (v := (-1)) hx hb dX0_link_14 (by decide) ?_
      exact wz_ri C hr hlocks hH (pz_on_nbJ ha hbadw hJ) dX0_link_15

set_option maxHeartbeats 4000000 in
set_option maxRecDepth 100000 in
/-- cut -/
theorem wz_cut {l : Launch} {D : va_G} {h : Nat} {r : Nat → Nat} {ca : Nat → ClassId} {f : pz_S} {g : pz_S} {x : Int32} (hJ : pz_J f g) : wz_Mi l yX0_cut cX0_cut 3 .int ({ frames := 6, cells := 0, slots := 0, locals := 142 } : Room) D 0 13 h r wz_e0 ca f [.int x] (fun v f' => v = (pz_o1 g x).1 ∧ pz_J f' (pz_o1 g x).2) := by
  have hJ9 := hJ
  obtain ⟨sv, hI, hT, hF⟩ := hJ9
  refine wz_si (T := TX0) (by decide) (Nat.le_of_ble_eq_true rfl) rfl in_X0 ?_
  intro p e s m args below meth c A ls C hr hlocks hml hl hH
  have C : wz_C p s m args c cX0_cut D 0 13 RX0 TX0 wz_e0 ca A := C
  have hx := C.1
  have hb := C.2.1
  have hts := C.2.2.1
  have hl : lv_has ls 3 [(0, .ref h), (1, .int x)] := hl
  refine lv_aload_n hx hb dX0_cut_0 rfl (lv_at hl 0 rfl) ?_
  refine lv_iload_n hx hb dX0_cut_1 rfl (lv_at hl 1 rfl) ?_
  refine wz_ci C hml hl.1 hH (wz_parent (f := f) (x := x) hJ) (cwV 1 hts (lw_V q114 q115 q116 q11 q117) rfl rfl rfl (by decide +kernel) ⟨Nat.le_of_ble_eq_true rfl, Nat.le_of_ble_eq_true rfl⟩) rfl rfl (Nat.le_of_ble_eq_true rfl) dX0_cut_2 ⟨Nat.zero_le _, Nat.zero_le _⟩ (fun u1 F1 H locs hp hH => ?_)
  rcases pz_node_em x with hbad | ⟨n, hn, ex⟩
  · rw [pz_o6_b hbad] at hp
    obtain ⟨eu, hJ1⟩ := hp
    have eu : u1 = -1 := eu
    subst eu
    refine lv_istore_n (lv' := [(2, .int (-1)), (0, .ref h), (1, .int x)]) hx hb dX0_cut_5 rfl hl (by decide) rfl (fun ls hl => ?_)
    refine lv_iload_n hx hb dX0_cut_6 rfl (lv_at hl 0 rfl) ?_
    refine lv_if_ge (tgt := 12) hx hb dX0_cut_7 (by decide) (fun c7 => absurd c7 (by decide)) (fun _ => ?_)
    refine lv_iconst (v := (-1)) hx hb dX0_cut_10 (by decide) ?_
    exact wz_ri C hr hlocks hH (pz_on_bJ hbad hJ1) dX0_cut_11
  · subst ex
    rw [pz_o6_n hn] at hp
    obtain ⟨eu, hJ1⟩ := hp
    have eu : u1 = g 1 n := eu
    have hJ1 : pz_J F1 g := hJ1
    subst eu
    refine lv_istore_n (lv' := [(2, .int (g 1 n)), (0, .ref h), (1, .int (nI n))]) hx hb dX0_cut_5 rfl hl (by decide) rfl (fun ls hl => ?_)
    refine lv_iload_n hx hb dX0_cut_6 rfl (lv_at hl 0 rfl) ?_
    refine lv_if_ge (tgt := 12) hx hb dX0_cut_7 (by decide) (fun c7 => ?_) (fun c7 => ?_)
    · obtain ⟨sv1, hI1, hT1, -⟩ := hJ1
      refine lv_aload_n hx hb dX0_cut_12 rfl (lv_at hl 1 rfl) ?_
      refine lv_iload_n hx hb dX0_cut_13 rfl (lv_at hl 2 rfl) ?_
      refine wz_ci C hml hl.1 hH (wz_expose (f := F1) hn hI1 hT1 hF) (cwV 1 hts (lw_V q74 q76 qs0 q11 q77) rfl rfl rfl (by decide +kernel) ⟨Nat.le_of_ble_eq_true rfl, Nat.le_of_ble_eq_true rfl⟩) rfl rfl (Nat.le_of_ble_eq_true rfl) dX0_cut_14 ⟨Nat.zero_le _, Nat.zero_le _⟩ (fun vF2 F2 H locs hp hH => ?_)
      obtain ⟨svF2, hEF2⟩ := hp
      have hXF2 := hEF2.1
      obtain ⟨k, hk, ek⟩ : ∃ j, j < 24 ∧ F2 0 n = nI j := pz_P_ge (hXF2.1 n hn).1.1.1 (fun z => absurd c7 (by rw [pz_X_p0 hXF2 hn (pz_P_lt (hXF2.1 n hn).1.1.1 z)]; decide))
      refine lv_pop hx hb dX0_cut_17 rfl ?_
      refine wz_fld C hH hl 1 rfl 2 (by decide) q23 dX0_cut_18 dX0_cut_19 ?_
      refine wz_fld C hH hl 1 rfl 0 (by decide) q21 dX0_cut_22 dX0_cut_23 ?_
      refine lv_iload_n hx hb dX0_cut_26 rfl (lv_at hl 2 rfl) ?_
      refine wz_ldv (v := (nI k)) C hH 0 (by decide) rfl rfl hn ek dX0_cut_27 ?_
      refine lv_iconst (v := (-1)) hx hb dX0_cut_28 (by decide) ?_
      refine wz_st C hH 2 (by decide) rfl rfl hk dX0_cut_29 (fun H locs hH => ?_)
      refine wz_fld C hH hl 1 rfl 0 (by decide) q21 dX0_cut_30 dX0_cut_31 ?_
      refine lv_iload_n hx hb dX0_cut_34 rfl (lv_at hl 2 rfl) ?_
      refine lv_iconst (v := (-1)) hx hb dX0_cut_35 (by decide) ?_
      refine wz_st C hH 0 (by decide) rfl rfl hn dX0_cut_36 (fun H locs hH => ?_)
      refine lv_aload_n hx hb dX0_cut_37 rfl (lv_at hl 1 rfl) ?_
      refine lv_iload_n hx hb dX0_cut_38 rfl (lv_at hl 2 rfl) ?_
      have Q0 : pz_P ((pz_fu (pz_fu F2 2 k (-1)) 0 n (-1)) 0 n) := by rw [pz_fu_s]; exact pz_P_m
      have Q1 : pz_P ((pz_fu (pz_fu F2 2 k (-1)) 0 n (-1)) 1 n) := by rw [pz_fu_k (by decide), pz_fu_k (by decide)]; exact (hXF2.1 n hn).1.1.2.1
      refine wz_cv C hml hl.1 hH (wz_gather (f := (pz_fu (pz_fu F2 2 k (-1)) 0 n (-1))) hn Q0 Q1) (cwV 1 hts (lw_V q102 q104 qs7 q11 q105) rfl rfl rfl (by decide +kernel) ⟨Nat.le_of_ble_eq_true rfl, Nat.le_of_ble_eq_true rfl⟩) rfl rfl (Nat.le_of_ble_eq_true rfl) dX0_cut_39 ⟨Nat.zero_le _, Nat.zero_le _⟩ (fun F9 H locs hp hH => ?_)
      subst hp
      refine lv_iload_n hx hb dX0_cut_42 rfl (lv_at hl 0 rfl) ?_
      exact wz_ri C hr hlocks hH (pz_on_nJ hn rfl (pz_cut_ok hXF2 hF hn hk ek)) dX0_cut_43
    · have e1 : g 1 n = -1 := pz_P_lt (pz_w_P hF hn) (Int32.not_le.mp c7)
      refine lv_iconst (v := (-1)) hx hb dX0_cut_10 (by decide) ?_
      exact wz_ri C hr hlocks hH (pz_on_nJ hn e1.symm (by rw [pz_fu_same e1]; exact hJ1)) dX0_cut_11

set_option maxHeartbeats 4000000 in
set_option maxRecDepth 100000 in
/-- turn -/
theorem wz_turn {l : Launch} {D : va_G} {h : Nat} {r : Nat → Nat} {ca : Nat → ClassId} {f : pz_S} {g : pz_S} {x : Int32} (hJ : pz_J f g) : wz_Mi l yX0_turn cX0_turn 3 .int ({ frames := 6, cells := 0, slots := 0, locals := 142 } : Room) D 0 13 h r wz_e0 ca f [.int x] (fun v f' => v = (pz_o2 g x).1 ∧ pz_J f' (pz_o2 g x).2) := by
  have hJ9 := hJ
  obtain ⟨sv, hI, hT, hF⟩ := hJ9
  refine wz_si (T := TX0) (by decide) (Nat.le_of_ble_eq_true rfl) rfl in_X0 ?_
  intro p e s m args below meth c A ls C hr hlocks hml hl hH
  have C : wz_C p s m args c cX0_turn D 0 13 RX0 TX0 wz_e0 ca A := C
  have hx := C.1
  have hb := C.2.1
  have hts := C.2.2.1
  have hl : lv_has ls 3 [(0, .ref h), (1, .int x)] := hl
  refine lv_iload_n hx hb dX0_turn_0 rfl (lv_at hl 1 rfl) ?_
  refine wz_cs C hml hl.1 hH (wz_isNode (x := x)) (va_cwS 1 hts (lw_S q67 q68 q11 q69) rfl rfl rfl (by decide +kernel) ⟨Nat.le_of_ble_eq_true rfl, Nat.le_of_ble_eq_true rfl⟩) (Nat.le_of_ble_eq_true rfl) dX0_turn_1 ⟨Nat.zero_le _, Nat.zero_le _⟩ (fun v H locs hpv hH => ?_)
  refine lv_if_ne (tgt := 9) hx hb dX0_turn_4 (by decide) (fun c4 => ?_) (fun c4 => ?_)
  · obtain ⟨n, hn, exn⟩ := hpv.elim (fun z => z.2) (fun z => absurd z.1 c4)
    subst exn
    refine lv_aload_n hx hb dX0_turn_9 rfl (lv_at hl 0 rfl) ?_
    refine lv_iload_n hx hb dX0_turn_10 rfl (lv_at hl 1 rfl) ?_
    refine wz_ci C hml hl.1 hH (wz_root (f := f) (x := (nI n)) hJ) (cwV 1 hts (lw_V q70 q71 q72 q11 q73) rfl rfl rfl (by decide +kernel) ⟨Nat.le_of_ble_eq_true rfl, Nat.le_of_ble_eq_true rfl⟩) rfl rfl (Nat.le_of_ble_eq_true rfl) dX0_turn_11 ⟨Nat.zero_le _, Nat.zero_le _⟩ (fun u1 F1 H locs hp hH => ?_)
    rw [pz_o5_n hn] at hp
    obtain ⟨eu1, hJF1⟩ := hp
    subst eu1
    refine lv_istore_n (lv' := [(2, .int (nI (pz_ro g n))), (0, .ref h), (1, .int (nI n))]) hx hb dX0_turn_14 rfl hl (by decide) rfl (fun ls hl => ?_)
    obtain ⟨sv1, hI1, hT1, -⟩ := hJF1
    refine lv_aload_n hx hb dX0_turn_15 rfl (lv_at hl 1 rfl) ?_
    refine lv_iload_n hx hb dX0_turn_16 rfl (lv_at hl 2 rfl) ?_
    refine wz_ci C hml hl.1 hH (wz_expose (f := F1) hn hI1 hT1 hF) (cwV 1 hts (lw_V q74 q76 qs0 q11 q77) rfl rfl rfl (by decide +kernel) ⟨Nat.le_of_ble_eq_true rfl, Nat.le_of_ble_eq_true rfl⟩) rfl rfl (Nat.le_of_ble_eq_true rfl) dX0_turn_17 ⟨Nat.zero_le _, Nat.zero_le _⟩ (fun vF2 F2 H locs hp hH => ?_)
    obtain ⟨svF2, hEF2⟩ := hp
    have hXF2 := hEF2.1
    refine lv_pop hx hb dX0_turn_20 rfl ?_
    refine wz_fld C hH hl 1 rfl 9 (by decide) q30 dX0_turn_21 dX0_turn_22 ?_
    refine lv_iload_n hx hb dX0_turn_25 rfl (lv_at hl 2 rfl) ?_
    refine wz_fld C hH hl 1 rfl 9 (by decide) q30 dX0_turn_26 dX0_turn_27 ?_
    refine lv_iload_n hx hb dX0_turn_30 rfl (lv_at hl 2 rfl) ?_
    refine wz_ldvz (v := 0) C hH 9 (by decide) rfl rfl hn hXF2.2.2.2.2.2.1 dX0_turn_31 ?_
    refine lv_if_ne (tgt := 39) hx hb dX0_turn_32 (by decide) (fun c32 => absurd (by decide) c32) (fun _ => ?_)
    refine lv_iconst (v := 1) hx hb dX0_turn_35 (by decide) ?_
    refine lv_goto (tgt := 40) hx hb dX0_turn_36 (by decide) ?_
    refine wz_stz C hH 9 (by decide) rfl rfl hn (by decide) dX0_turn_40 (fun H locs hH => ?_)
    refine lv_iload_n hx hb dX0_turn_41 rfl (lv_at hl 0 rfl) ?_
    exact wz_ri C hr hlocks hH (pz_on_nJ hn rfl (pz_turn_ok hXF2 hF hn)) dX0_turn_42
  · have hbadv := hpv.elim (fun z => absurd (z.1.symm.trans c4) (by decide)) (fun z => z.2)
    refine lv_iconst (v := (-1)) hx hb dX0_turn_7 (by decide) ?_
    exact wz_ri C hr hlocks hH (pz_on_bJ hbadv hJ) dX0_turn_8

set_option maxHeartbeats 4000000 in
set_option maxRecDepth 100000 in
/-- set -/
theorem wz_set {l : Launch} {D : va_G} {h : Nat} {r : Nat → Nat} {ca : Nat → ClassId} {f : pz_S} {g : pz_S} {x y : Int32} (hJ : pz_J f g) : wz_Mi l yX0_set cX0_set 4 .int ({ frames := 5, cells := 0, slots := 0, locals := 119 } : Room) D 0 13 h r wz_e0 ca f [.int x, .int y] (fun v f' => v = (pz_o3 g x y).1 ∧ pz_J f' (pz_o3 g x y).2) := by
  have hJ9 := hJ
  obtain ⟨sv, hI, hT, hF⟩ := hJ9
  refine wz_si (T := TX0) (by decide) (Nat.le_of_ble_eq_true rfl) rfl in_X0 ?_
  intro p e s m args below meth c A ls C hr hlocks hml hl hH
  have C : wz_C p s m args c cX0_set D 0 13 RX0 TX0 wz_e0 ca A := C
  have hx := C.1
  have hb := C.2.1
  have hts := C.2.2.1
  have hl : lv_has ls 4 [(0, .ref h), (1, .int x), (2, .int y)] := hl
  refine lv_iload_n hx hb dX0_set_0 rfl (lv_at hl 1 rfl) ?_
  refine wz_cs C hml hl.1 hH (wz_isNode (x := x)) (va_cwS 1 hts (lw_S q67 q68 q11 q69) rfl rfl rfl (by decide +kernel) ⟨Nat.le_of_ble_eq_true rfl, Nat.le_of_ble_eq_true rfl⟩) (Nat.le_of_ble_eq_true rfl) dX0_set_1 ⟨Nat.zero_le _, Nat.zero_le _⟩ (fun v H locs hpv hH => ?_)
  refine lv_if_ne (tgt := 9) hx hb dX0_set_4 (by decide) (fun c4 => ?_) (fun c4 => ?_)
  · obtain ⟨n, hn, exn⟩ := hpv.elim (fun z => z.2) (fun z => absurd z.1 c4)
    subst exn
    refine lv_aload_n hx hb dX0_set_9 rfl (lv_at hl 0 rfl) ?_
    refine lv_iload_n hx hb dX0_set_10 rfl (lv_at hl 1 rfl) ?_
    refine wz_ci C hml hl.1 hH (wz_expose (f := f) hn hI hT hF) (cwV 1 hts (lw_V q74 q76 qs0 q11 q77) rfl rfl rfl (by decide +kernel) ⟨Nat.le_of_ble_eq_true rfl, Nat.le_of_ble_eq_true rfl⟩) rfl rfl (Nat.le_of_ble_eq_true rfl) dX0_set_11 ⟨Nat.zero_le _, Nat.zero_le _⟩ (fun vF2 F2 H locs hp hH => ?_)
    obtain ⟨svF2, hEF2⟩ := hp
    have hXF2 := hEF2.1
    refine lv_pop hx hb dX0_set_14 rfl ?_
    refine wz_fld C hH hl 0 rfl 3 (by decide) q24 dX0_set_15 dX0_set_16 ?_
    refine lv_iload_n hx hb dX0_set_19 rfl (lv_at hl 1 rfl) ?_
    refine wz_ld C hH 3 (by decide) rfl rfl hn dX0_set_20 ?_
    refine lv_istore_n (lv' := [(3, .int (F2 3 n)), (0, .ref h), (1, .int (nI n)), (2, .int y)]) hx hb dX0_set_21 rfl hl (by decide) rfl (fun ls hl => ?_)
    refine wz_fld C hH hl 1 rfl 3 (by decide) q24 dX0_set_22 dX0_set_23 ?_
    refine lv_iload_n hx hb dX0_set_26 rfl (lv_at hl 2 rfl) ?_
    refine lv_iload_n hx hb dX0_set_27 rfl (lv_at hl 3 rfl) ?_
    refine wz_st C hH 3 (by decide) rfl rfl hn dX0_set_28 (fun H locs hH => ?_)
    refine lv_aload_n hx hb dX0_set_29 rfl (lv_at hl 1 rfl) ?_
    refine lv_iload_n hx hb dX0_set_30 rfl (lv_at hl 2 rfl) ?_
    have Q0 : pz_P ((pz_fu F2 3 n y) 0 n) := by rw [pz_fu_k (by decide)]; exact (hXF2.1 n hn).1.1.1
    have Q1 : pz_P ((pz_fu F2 3 n y) 1 n) := by rw [pz_fu_k (by decide)]; exact (hXF2.1 n hn).1.1.2.1
    refine wz_cv C hml hl.1 hH (wz_gather (f := (pz_fu F2 3 n y)) hn Q0 Q1) (cwV 1 hts (lw_V q102 q104 qs7 q11 q105) rfl rfl rfl (by decide +kernel) ⟨Nat.le_of_ble_eq_true rfl, Nat.le_of_ble_eq_true rfl⟩) rfl rfl (Nat.le_of_ble_eq_true rfl) dX0_set_31 ⟨Nat.zero_le _, Nat.zero_le _⟩ (fun F9 H locs hp hH => ?_)
    subst hp
    refine lv_iload_n hx hb dX0_set_34 rfl (lv_at hl 0 rfl) ?_
    exact wz_ri C hr hlocks hH (pz_on_nJ hn (pz_X_val hXF2 hn) (pz_set_ok hXF2 hF hn)) dX0_set_35
  · have hbadv := hpv.elim (fun z => absurd (z.1.symm.trans c4) (by decide)) (fun z => z.2)
    refine lv_iconst (v := 0) hx hb dX0_set_7 (by decide) ?_
    exact wz_ri C hr hlocks hH (pz_on_bJ hbadv hJ) dX0_set_8

set_option maxHeartbeats 4000000 in
set_option maxRecDepth 100000 in
/-- paint -/
theorem wz_paint {l : Launch} {D : va_G} {h : Nat} {r : Nat → Nat} {ca : Nat → ClassId} {f : pz_S} {g : pz_S} {x y : Int32} (hJ : pz_J f g) : wz_Mi l yX0_paint cX0_paint 3 .int ({ frames := 5, cells := 0, slots := 0, locals := 119 } : Room) D 0 13 h r wz_e0 ca f [.int x, .int y] (fun v f' => v = (pz_o4 g x y).1 ∧ pz_J f' (pz_o4 g x y).2) := by
  have hJ9 := hJ
  obtain ⟨sv, hI, hT, hF⟩ := hJ9
  refine wz_si (T := TX0) (by decide) (Nat.le_of_ble_eq_true rfl) rfl in_X0 ?_
  intro p e s m args below meth c A ls C hr hlocks hml hl hH
  have C : wz_C p s m args c cX0_paint D 0 13 RX0 TX0 wz_e0 ca A := C
  have hx := C.1
  have hb := C.2.1
  have hts := C.2.2.1
  have hl : lv_has ls 3 [(0, .ref h), (1, .int x), (2, .int y)] := hl
  refine lv_iload_n hx hb dX0_paint_0 rfl (lv_at hl 1 rfl) ?_
  refine wz_cs C hml hl.1 hH (wz_isNode (x := x)) (va_cwS 1 hts (lw_S q67 q68 q11 q69) rfl rfl rfl (by decide +kernel) ⟨Nat.le_of_ble_eq_true rfl, Nat.le_of_ble_eq_true rfl⟩) (Nat.le_of_ble_eq_true rfl) dX0_paint_1 ⟨Nat.zero_le _, Nat.zero_le _⟩ (fun v H locs hpv hH => ?_)
  refine lv_if_ne (tgt := 9) hx hb dX0_paint_4 (by decide) (fun c4 => ?_) (fun c4 => ?_)
  · obtain ⟨n, hn, exn⟩ := hpv.elim (fun z => z.2) (fun z => absurd z.1 c4)
    subst exn
    refine lv_aload_n hx hb dX0_paint_9 rfl (lv_at hl 0 rfl) ?_
    refine lv_iload_n hx hb dX0_paint_10 rfl (lv_at hl 1 rfl) ?_
    refine wz_ci C hml hl.1 hH (wz_expose (f := f) hn hI hT hF) (cwV 1 hts (lw_V q74 q76 qs0 q11 q77) rfl rfl rfl (by decide +kernel) ⟨Nat.le_of_ble_eq_true rfl, Nat.le_of_ble_eq_true rfl⟩) rfl rfl (Nat.le_of_ble_eq_true rfl) dX0_paint_11 ⟨Nat.zero_le _, Nat.zero_le _⟩ (fun vF2 F2 H locs hp hH => ?_)
    obtain ⟨svF2, hEF2⟩ := hp
    have hXF2 := hEF2.1
    refine lv_pop hx hb dX0_paint_14 rfl ?_
    refine lv_aload_n hx hb dX0_paint_15 rfl (lv_at hl 0 rfl) ?_
    refine lv_iload_n hx hb dX0_paint_16 rfl (lv_at hl 1 rfl) ?_
    refine lv_iload_n hx hb dX0_paint_17 rfl (lv_at hl 2 rfl) ?_
    refine wz_cv C hml hl.1 hH (wz_paintPiece (f := F2) (x := y) hn) (cwV 2 hts (lw_V q94 q96 qs5 q11 q97) rfl rfl rfl (by decide +kernel) ⟨Nat.le_of_ble_eq_true rfl, Nat.le_of_ble_eq_true rfl⟩) rfl rfl (Nat.le_of_ble_eq_true rfl) dX0_paint_18 ⟨Nat.zero_le _, Nat.zero_le _⟩ (fun F9 H locs hp hH => ?_)
    subst hp
    refine wz_fld C hH hl 0 rfl 4 (by decide) q25 dX0_paint_21 dX0_paint_22 ?_
    refine lv_iload_n hx hb dX0_paint_25 rfl (lv_at hl 1 rfl) ?_
    refine wz_ldv (v := (F2 4 n)) C hH 4 (by decide) rfl rfl hn (pz_pp_k (by decide) (by decide) (by decide) (by decide) (by decide) (by decide)) dX0_paint_26 ?_
    exact wz_ri C hr hlocks hH (pz_on_nJ hn (pz_X_size hXF2 hn) (pz_paint_ok hXF2 hF hn)) dX0_paint_27
  · have hbadv := hpv.elim (fun z => absurd (z.1.symm.trans c4) (by decide)) (fun z => z.2)
    refine lv_iconst (v := (-1)) hx hb dX0_paint_7 (by decide) ?_
    exact wz_ri C hr hlocks hH (pz_on_bJ hbadv hJ) dX0_paint_8
end
section
/-! PLAIN 14: the model's loops, in steps -/
theorem pz_o0_n {g : pz_S} {a b : Nat} (ha : a < 24) (hb : b < 24) : pz_o0 g (nI a) (nI b) = if g 1 a = -1 ∧ pz_ro g b ≠ a then (0, pz_fu g 1 a (nI b)) else (-1, g) := by
  unfold pz_o0
  rw [pz_on_n ha, pz_on_n hb]
theorem pz_on_be {α : Type} {d d' : α} {K : Nat → α} {x : Int32} (hb : ∀ j, j < 24 → x ≠ nI j) (h : d' = d) : d' = pz_on d K x := h.trans (pz_on_b hb).symm
/-- an answer and a state that are a pair -/
theorem pz_pr {v : Int32} {s : pz_S} {o : pz_O} (h : o = (v, s)) : v = o.1 ∧ s = o.2 := by
  rw [h]
  exact ⟨rfl, rfl⟩
theorem pz_W_z {g : pz_S} {z : Nat} {l : List Nat} {x : Int32} (h : pz_W g (z :: l) x) : z < 24 ∧ x = nI z ∧ pz_W g l (g 1 z) := h
theorem pz_W_0 {g : pz_S} {x : Int32} (h : pz_W g [] x) : x = -1 := h
theorem pz_ro_nx {g : pz_S} (hF : pz_Fo g) {y z r : Nat} {l : List Nat} (hy : y < 24) (h : pz_W g (z :: l) (g 1 y)) (hr : pz_ro g y = r) : pz_ro g z = r := by
  obtain ⟨hz, e, -⟩ := pz_W_z h
  rw [← hr, pz_ro_par hF hy hz e]
/-- where the way ends, the last node is the root -/
def pz_Rr (g : pz_S) (b : Int32) (r : Nat) : List Nat → Prop
  | [] => b = nI r
  | z :: _ => pz_ro g z = r
theorem pz_Rr_s {g : pz_S} (hF : pz_Fo g) {b : Int32} {r z : Nat} {l : List Nat} (hz : z < 24) (hW : pz_W g l (g 1 z)) (h : pz_Rr g b r (z :: l)) : pz_Rr g (nI z) r l := by
  have h : pz_ro g z = r := h
  cases l with
  | nil =>
    show nI z = nI r
    rw [← h, pz_ro_root hz (pz_W_0 hW)]
  | cons w l => exact pz_ro_nx hF hz hW h
/-- turn's loop -/
def pz_Tu (g : pz_S) (n : Nat) (G : pz_S) (b : Int32) (l : List Nat) : Prop := pz_tu l G b = pz_tu (pz_w g n) g (-1) ∧ (∀ y ∈ l, G 1 y = g 1 y) ∧ l.Nodup ∧ pz_Rr g b (pz_ro g n) l
theorem pz_Tu_0 {g : pz_S} (hF : pz_Fo g) {n : Nat} (hn : n < 24) : pz_Tu g n g (-1) (pz_w g n) := by
  refine ⟨rfl, fun _ _ => rfl, pz_W_nd (hF n hn), ?_⟩
  obtain ⟨l, e, -⟩ := pz_w_c hF hn
  rw [e]
  show pz_ro g n = pz_ro g n
  rfl
theorem pz_Tu_s {g G : pz_S} (hF : pz_Fo g) {n z : Nat} {b : Int32} {l : List Nat} (hz : z < 24) (hW : pz_W g l (g 1 z)) (h : pz_Tu g n G b (z :: l)) : pz_Tu g n (pz_fu G 1 z b) (nI z) l := by
  obtain ⟨h1, h2, h3, h4⟩ := h
  obtain ⟨h5, h6⟩ := List.nodup_cons.mp h3
  refine ⟨h1, fun y hy => ?_, h6, pz_Rr_s hF hz hW h4⟩
  rw [pz_fu_i (fun e => h5 (by rw [← e]; exact hy))]
  exact h2 y (List.mem_cons_of_mem _ hy)
/-- paint's loop -/
theorem pz_mp_nil {g : pz_S} {v : Int32} : pz_mp g [] v = g := by
  funext k y
  unfold pz_mp
  rw [if_neg (fun z => by cases z.2)]
theorem pz_mp_snoc {g : pz_S} {l : List Nat} {z : Nat} {v : Int32} : pz_fu (pz_mp g l v) 0 z v = pz_mp g (l ++ [z]) v := by
  funext k y
  unfold pz_fu pz_mp
  by_cases h0 : k = 0
  · by_cases hy : y = z
    · rw [if_pos ⟨h0, hy⟩, if_pos ⟨h0, by rw [hy]; exact List.mem_append_right _ List.mem_cons_self⟩]
    · rw [if_neg (fun w => hy w.2)]
      by_cases hm : y ∈ l
      · rw [if_pos ⟨h0, hm⟩, if_pos ⟨h0, List.mem_append_left _ hm⟩]
      · rw [if_neg (fun w => hm w.2), if_neg (fun w => by
          rcases List.mem_append.mp w.2 with q | q
          · exact hm q
          · exact hy (List.mem_singleton.mp q))]
  · rw [if_neg (fun w => h0 w.1), if_neg (fun w => h0 w.1), if_neg (fun w => h0 w.1)]
theorem pz_mp_1 {g : pz_S} {l : List Nat} {v : Int32} {y : Nat} : pz_mp g l v 1 y = g 1 y := if_neg (fun w => by cases w.1)
/-- meet's loop -/
theorem pz_fi_cn {z : Nat} {l m : List Nat} (h : z ∉ m) : pz_fi (z :: l) m = pz_fi l m := by
  have e : (z :: l).find? (fun y => decide (y ∈ m)) = l.find? (fun y => decide (y ∈ m)) := List.find?_cons_of_neg (by simp [h])
  unfold pz_fi
  rw [e]
theorem pz_fi_cy {z : Nat} {l m : List Nat} (h : z ∈ m) : pz_fi (z :: l) m = nI z := pz_fi_s (Y := []) (fun y hy => by cases hy) h
theorem pz_fi_0 {m : List Nat} : pz_fi [] m = -1 := pz_fi_n (fun y hy => by cases hy)
/-- sumPart's loop -/
def pz_dw (g : pz_S) (a : Nat) : Nat → Int32 := fun k => if a ∈ pz_w g k then g 0 k else 0
theorem pz_dw_D {g : pz_S} {a : Nat} : pz_su (pz_dw g a) 24 = pz_D g a := rfl
theorem pz_dw_y {g : pz_S} {a k : Nat} (h : a ∈ pz_w g k) : pz_su (pz_dw g a) k + g 0 k = pz_su (pz_dw g a) (k + 1) := by
  show _ = pz_su (pz_dw g a) k + pz_dw g a k
  unfold pz_dw
  rw [if_pos h]
theorem pz_dw_n {g : pz_S} {a k : Nat} (h : a ∉ pz_w g k) : pz_su (pz_dw g a) k = pz_su (pz_dw g a) (k + 1) := by
  show _ = pz_su (pz_dw g a) k + (if a ∈ pz_w g k then g 0 k else 0)
  rw [if_neg h]
  simp
section
variable {g : pz_S} {j : Nat}
theorem pz_o1_n (h : j < 24) : pz_o1 g (nI j) = (g 1 j, pz_fu g 1 j (-1)) := pz_on_n h
theorem pz_o2_n (h : j < 24) : pz_o2 g (nI j) = (nI (pz_ro g j), pz_tu (pz_w g j) g (-1)) := pz_on_n h
theorem pz_o3_n {v : Int32} (h : j < 24) : pz_o3 g (nI j) v = (g 0 j, pz_fu g 0 j v) := pz_on_n h
theorem pz_o4_n {v : Int32} (h : j < 24) : pz_o4 g (nI j) v = (nI (pz_w g j).length, pz_mp g (pz_w g j) v) := pz_on_n h
theorem pz_o7_n (h : j < 24) : pz_o7 g (nI j) = (nI (pz_w g j).length - 1, g) := pz_on_n h
theorem pz_o8_n (h : j < 24) : pz_o8 g (nI j) = (pz_sl (g 0) (pz_w g j), g) := pz_on_n h
theorem pz_o9_n (h : j < 24) : pz_o9 g (nI j) = (pz_lf g (g 0 j) (pz_w g j).tail, g) := pz_on_n h
theorem pz_o11_n (h : j < 24) : pz_o11 g (nI j) = (pz_D g j, g) := pz_on_n h
theorem pz_o10_n {b : Nat} (h : j < 24) (hb : b < 24) : pz_o10 g (nI j) (nI b) = (pz_fi (pz_w g j) (pz_w g b), g) := by
  unfold pz_o10
  rw [pz_on_n h, pz_on_n hb]
theorem pz_o10_b {y : Int32} (h : j < 24) (hb : ∀ i, i < 24 → y ≠ nI i) : pz_o10 g (nI j) y = (-1, g) := by
  unfold pz_o10
  rw [pz_on_n h, pz_on_b hb]
theorem pz_o0_b {y : Int32} (h : j < 24) (hb : ∀ i, i < 24 → y ≠ nI i) : pz_o0 g (nI j) y = (-1, g) := by
  unfold pz_o0
  rw [pz_on_n h, pz_on_b hb]
theorem pz_Tu_e {G : pz_S} {b : Int32} (h : pz_Tu g j G b []) : (nI (pz_ro g j), pz_tu (pz_w g j) g (-1)) = (b, G) := by
  obtain ⟨h1, -, -, h4⟩ := h
  have h1 : G = pz_tu (pz_w g j) g (-1) := h1
  have h4 : b = nI (pz_ro g j) := h4
  rw [h1, h4]
end
end
section
/-! WALK 7: the methods of LinkForestModel (printed by wip/D-64312w/gen/model.py) -/
def wz_e1 : Nat → FieldType := fun _ => .int
set_option maxHeartbeats 4000000 in
set_option maxRecDepth 100000 in
/-- bad -/
theorem wm_bad {l : Launch} {x : Int32} : wz_Ms l yX1_bad cX1_bad 1 ({ frames := 0, cells := 0, slots := 0, locals := 0 } : Room) x (fun v => (v = 0 ∧ ∃ j : Nat, j < 24 ∧ x = nI j) ∨ (v = 1 ∧ ∀ j, j < 24 → x ≠ nI j)) := by
  refine wz_ss (by decide) (Nat.le_of_ble_eq_true rfl) ?_
  intro p e s m args below meth c ls hx hb hr hlocks hl end_
  have hl : lv_has ls 1 [(0, .int x)] := hl
  refine lv_iload_n hx hb dX1_bad_0 rfl (lv_at hl 0 rfl) ?_
  refine lv_if_lt (tgt := 10) hx hb dX1_bad_1 (by decide) (fun c1 => ?_) (fun c1 => ?_)
  · have hres := wz_isn0 c1
    refine lv_iconst (v := 1) hx hb dX1_bad_10 (by decide) ?_
    refine lv_goto (tgt := 15) hx hb dX1_bad_11 (by decide) ?_
    exact end_ _ _ 1 rfl dX1_bad_15 (Or.inr ⟨rfl, hres⟩)
  · refine lv_iload_n hx hb dX1_bad_4 rfl (lv_at hl 0 rfl) ?_
    refine lv_bipush (v := 23) hx hb dX1_bad_5 (by decide) ?_
    refine lv_icmp_le (tgt := 14) hx hb dX1_bad_7 (by decide) (fun c7 => ?_) (fun c7 => ?_)
    · have hres := wz_isn c1 (Int32.not_lt.mpr c7)
      refine lv_iconst (v := 0) hx hb dX1_bad_14 (by decide) ?_
      exact end_ _ _ 0 rfl dX1_bad_15 (Or.inl ⟨rfl, hres⟩)
    · have hres := wz_isn1 (Int32.not_le.mp c7)
      refine lv_iconst (v := 1) hx hb dX1_bad_10 (by decide) ?_
      refine lv_goto (tgt := 15) hx hb dX1_bad_11 (by decide) ?_
      exact end_ _ _ 1 rfl dX1_bad_15 (Or.inr ⟨rfl, hres⟩)

set_option maxHeartbeats 4000000 in
set_option maxRecDepth 100000 in
/-- cut -/
theorem wm_cut {l : Launch} {D : va_G} {h : Nat} {r : Nat → Nat} {ca : Nat → ClassId} {g : pz_S} {x : Int32}  : wz_Mi l yX1_cut cX1_cut 3 .int ({ frames := 1, cells := 0, slots := 0, locals := 20 } : Room) D 1 2 h r wz_e1 ca g [.int x] (fun v g' => v = (pz_o1 g x).1 ∧ g' = (pz_o1 g x).2) := by
  refine wz_si (T := TX1) (by decide) (Nat.le_of_ble_eq_true rfl) rfl in_X1 ?_
  intro p e s m args below meth c A ls C hr hlocks hml hl hH
  have C : wz_C p s m args c cX1_cut D 1 2 RX1 TX1 wz_e1 ca A := C
  have hx := C.1
  have hb := C.2.1
  have hts := C.2.2.1
  have hl : lv_has ls 3 [(0, .ref h), (1, .int x)] := hl
  refine lv_iload_n hx hb dX1_cut_0 rfl (lv_at hl 1 rfl) ?_
  refine wz_cs C hml hl.1 hH (wm_bad (x := x)) (va_cwS 1 hts (lw_S q169 q170 q12 q171) rfl rfl rfl (by decide +kernel) ⟨Nat.le_of_ble_eq_true rfl, Nat.le_of_ble_eq_true rfl⟩) (Nat.le_of_ble_eq_true rfl) dX1_cut_1 ⟨Nat.zero_le _, Nat.zero_le _⟩ (fun v H locs hpv hH => ?_)
  refine lv_if_eq (tgt := 9) hx hb dX1_cut_4 (by decide) (fun c4 => ?_) (fun c4 => ?_)
  · obtain ⟨n, hn, exn⟩ := hpv.elim (fun z => z.2) (fun z => absurd (z.1.symm.trans c4) (by decide))
    subst exn
    refine wz_fld C hH hl 0 rfl 1 (by decide) q159 dX1_cut_9 dX1_cut_10 ?_
    refine lv_iload_n hx hb dX1_cut_13 rfl (lv_at hl 1 rfl) ?_
    refine wz_ld C hH 1 (by decide) rfl rfl hn dX1_cut_14 ?_
    refine lv_istore_n (lv' := [(2, .int (g 1 n)), (0, .ref h), (1, .int (nI n))]) hx hb dX1_cut_15 rfl hl (by decide) rfl (fun ls hl => ?_)
    refine wz_fld C hH hl 1 rfl 1 (by decide) q159 dX1_cut_16 dX1_cut_17 ?_
    refine lv_iload_n hx hb dX1_cut_20 rfl (lv_at hl 2 rfl) ?_
    refine lv_iconst (v := (-1)) hx hb dX1_cut_21 (by decide) ?_
    refine wz_st C hH 1 (by decide) rfl rfl hn dX1_cut_22 (fun H locs hH => ?_)
    refine lv_iload_n hx hb dX1_cut_23 rfl (lv_at hl 0 rfl) ?_
    exact wz_ri C hr hlocks hH (pz_pr (pz_o1_n hn)) dX1_cut_24
  · have hbadv := hpv.elim (fun z => absurd z.1 c4) (fun z => z.2)
    refine lv_iconst (v := (-1)) hx hb dX1_cut_7 (by decide) ?_
    exact wz_ri C hr hlocks hH (pz_pr (pz_on_b hbadv)) dX1_cut_8

set_option maxHeartbeats 4000000 in
set_option maxRecDepth 100000 in
/-- set -/
theorem wm_set {l : Launch} {D : va_G} {h : Nat} {r : Nat → Nat} {ca : Nat → ClassId} {g : pz_S} {x y : Int32}  : wz_Mi l yX1_set cX1_set 4 .int ({ frames := 1, cells := 0, slots := 0, locals := 20 } : Room) D 1 2 h r wz_e1 ca g [.int x, .int y] (fun v g' => v = (pz_o3 g x y).1 ∧ g' = (pz_o3 g x y).2) := by
  refine wz_si (T := TX1) (by decide) (Nat.le_of_ble_eq_true rfl) rfl in_X1 ?_
  intro p e s m args below meth c A ls C hr hlocks hml hl hH
  have C : wz_C p s m args c cX1_set D 1 2 RX1 TX1 wz_e1 ca A := C
  have hx := C.1
  have hb := C.2.1
  have hts := C.2.2.1
  have hl : lv_has ls 4 [(0, .ref h), (1, .int x), (2, .int y)] := hl
  refine lv_iload_n hx hb dX1_set_0 rfl (lv_at hl 1 rfl) ?_
  refine wz_cs C hml hl.1 hH (wm_bad (x := x)) (va_cwS 1 hts (lw_S q169 q170 q12 q171) rfl rfl rfl (by decide +kernel) ⟨Nat.le_of_ble_eq_true rfl, Nat.le_of_ble_eq_true rfl⟩) (Nat.le_of_ble_eq_true rfl) dX1_set_1 ⟨Nat.zero_le _, Nat.zero_le _⟩ (fun v H locs hpv hH => ?_)
  refine lv_if_eq (tgt := 9) hx hb dX1_set_4 (by decide) (fun c4 => ?_) (fun c4 => ?_)
  · obtain ⟨n, hn, exn⟩ := hpv.elim (fun z => z.2) (fun z => absurd (z.1.symm.trans c4) (by decide))
    subst exn
    refine wz_fld C hH hl 0 rfl 0 (by decide) q158 dX1_set_9 dX1_set_10 ?_
    refine lv_iload_n hx hb dX1_set_13 rfl (lv_at hl 1 rfl) ?_
    refine wz_ld C hH 0 (by decide) rfl rfl hn dX1_set_14 ?_
    refine lv_istore_n (lv' := [(3, .int (g 0 n)), (0, .ref h), (1, .int (nI n)), (2, .int y)]) hx hb dX1_set_15 rfl hl (by decide) rfl (fun ls hl => ?_)
    refine wz_fld C hH hl 1 rfl 0 (by decide) q158 dX1_set_16 dX1_set_17 ?_
    refine lv_iload_n hx hb dX1_set_20 rfl (lv_at hl 2 rfl) ?_
    refine lv_iload_n hx hb dX1_set_21 rfl (lv_at hl 3 rfl) ?_
    refine wz_st C hH 0 (by decide) rfl rfl hn dX1_set_22 (fun H locs hH => ?_)
    refine lv_iload_n hx hb dX1_set_23 rfl (lv_at hl 0 rfl) ?_
    exact wz_ri C hr hlocks hH (pz_pr (pz_o3_n hn)) dX1_set_24
  · have hbadv := hpv.elim (fun z => absurd z.1 c4) (fun z => z.2)
    refine lv_iconst (v := 0) hx hb dX1_set_7 (by decide) ?_
    exact wz_ri C hr hlocks hH (pz_pr (pz_on_b hbadv)) dX1_set_8

set_option maxHeartbeats 4000000 in
set_option maxRecDepth 100000 in
/-- parent -/
theorem wm_parent {l : Launch} {D : va_G} {h : Nat} {r : Nat → Nat} {ca : Nat → ClassId} {g : pz_S} {x : Int32}  : wz_Mi l yX1_parent cX1_parent 2 .int ({ frames := 1, cells := 0, slots := 0, locals := 20 } : Room) D 1 2 h r wz_e1 ca g [.int x] (fun v g' => v = (pz_o6 g x).1 ∧ g' = (pz_o6 g x).2) := by
  refine wz_si (T := TX1) (by decide) (Nat.le_of_ble_eq_true rfl) rfl in_X1 ?_
  intro p e s m args below meth c A ls C hr hlocks hml hl hH
  have C : wz_C p s m args c cX1_parent D 1 2 RX1 TX1 wz_e1 ca A := C
  have hx := C.1
  have hb := C.2.1
  have hts := C.2.2.1
  have hl : lv_has ls 2 [(0, .ref h), (1, .int x)] := hl
  refine lv_iload_n hx hb dX1_parent_0 rfl (lv_at hl 1 rfl) ?_
  refine wz_cs C hml hl.1 hH (wm_bad (x := x)) (va_cwS 1 hts (lw_S q169 q170 q12 q171) rfl rfl rfl (by decide +kernel) ⟨Nat.le_of_ble_eq_true rfl, Nat.le_of_ble_eq_true rfl⟩) (Nat.le_of_ble_eq_true rfl) dX1_parent_1 ⟨Nat.zero_le _, Nat.zero_le _⟩ (fun v H locs hpv hH => ?_)
  refine lv_if_eq (tgt := 11) hx hb dX1_parent_4 (by decide) (fun c4 => ?_) (fun c4 => ?_)
  · obtain ⟨n, hn, exn⟩ := hpv.elim (fun z => z.2) (fun z => absurd (z.1.symm.trans c4) (by decide))
    subst exn
    refine wz_fld C hH hl 0 rfl 1 (by decide) q159 dX1_parent_11 dX1_parent_12 ?_
    refine lv_iload_n hx hb dX1_parent_15 rfl (lv_at hl 1 rfl) ?_
    refine wz_ld C hH 1 (by decide) rfl rfl hn dX1_parent_16 ?_
    exact wz_ri C hr hlocks hH (pz_pr (pz_o6_n hn)) dX1_parent_17
  · have hbadv := hpv.elim (fun z => absurd z.1 c4) (fun z => z.2)
    refine lv_iconst (v := (-1)) hx hb dX1_parent_7 (by decide) ?_
    refine lv_goto (tgt := 17) hx hb dX1_parent_8 (by decide) ?_
    exact wz_ri C hr hlocks hH (pz_pr (pz_o6_b hbadv)) dX1_parent_17

set_option maxHeartbeats 4000000 in
set_option maxRecDepth 100000 in
/-- root -/
theorem wm_root {l : Launch} {D : va_G} {h : Nat} {r : Nat → Nat} {ca : Nat → ClassId} {g : pz_S} {x : Int32} (hF : pz_Fo g) : wz_Mi l yX1_root cX1_root 3 .int ({ frames := 1, cells := 0, slots := 0, locals := 20 } : Room) D 1 2 h r wz_e1 ca g [.int x] (fun v g' => v = (pz_o5 g x).1 ∧ g' = (pz_o5 g x).2) := by
  refine wz_si (T := TX1) (by decide) (Nat.le_of_ble_eq_true rfl) rfl in_X1 ?_
  intro p e s m args below meth c A ls C hr hlocks hml hl hH
  have C : wz_C p s m args c cX1_root D 1 2 RX1 TX1 wz_e1 ca A := C
  have hx := C.1
  have hb := C.2.1
  have hts := C.2.2.1
  have hl : lv_has ls 3 [(0, .ref h), (1, .int x)] := hl
  refine lv_iload_n hx hb dX1_root_0 rfl (lv_at hl 1 rfl) ?_
  refine wz_cs C hml hl.1 hH (wm_bad (x := x)) (va_cwS 1 hts (lw_S q169 q170 q12 q171) rfl rfl rfl (by decide +kernel) ⟨Nat.le_of_ble_eq_true rfl, Nat.le_of_ble_eq_true rfl⟩) (Nat.le_of_ble_eq_true rfl) dX1_root_1 ⟨Nat.zero_le _, Nat.zero_le _⟩ (fun v H locs hpv hH => ?_)
  refine lv_if_eq (tgt := 9) hx hb dX1_root_4 (by decide) (fun c4 => ?_) (fun c4 => ?_)
  · obtain ⟨n, hn, exn⟩ := hpv.elim (fun z => z.2) (fun z => absurd (z.1.symm.trans c4) (by decide))
    subst exn
    refine lv_iload_n hx hb dX1_root_9 rfl (lv_at hl 1 rfl) ?_
    refine lv_istore_n (lv' := [(2, .int (nI n)), (0, .ref h), (1, .int (nI n))]) hx hb dX1_root_10 rfl hl (by decide) rfl (fun ls hl => ?_)
    have t11 : ∀ (la : List Nat) (y : Nat) (H : Heap) (locs : List Loc) (ls : Array Slot), y < 24 → pz_W g la (g 1 y) → pz_ro g y = pz_ro g n → wz_H D 1 2 h r ca g A s.heap H locs → lv_has ls 3 [(0, .ref h), (2, .int (nI y))] → W p l e ({ frames := 1, cells := 0, slots := 0, locals := 20 } : Room) s m args below meth c H locs 0 0 (wz_Qi below (fun v g' => v = (pz_o5 g (nI n)).1 ∧ g' = (pz_o5 g (nI n)).2) D 1 2 h r wz_e1 ca A args s) (F0 m 11 ls []) := by
      intro la
      induction la with
      | nil =>
        intro y H locs ls hy hW hro hH hl
        have e1 := pz_W_0 hW
        refine wz_fld C hH hl 0 rfl 1 (by decide) q159 dX1_root_11 dX1_root_12 ?_
        refine lv_iload_n hx hb dX1_root_15 rfl (lv_at hl 1 rfl) ?_
        refine wz_ldv (v := (-1)) C hH 1 (by decide) rfl rfl hy e1 dX1_root_16 ?_
        refine lv_if_lt (tgt := 30) hx hb dX1_root_17 (by decide) (fun _ => ?_) (fun c17 => absurd (by decide) c17)
        refine lv_iload_n hx hb dX1_root_30 rfl (lv_at hl 1 rfl) ?_
        exact wz_ri C hr hlocks hH (pz_pr ((pz_o5_n hn).trans (by rw [← hro, pz_ro_root hy e1]))) dX1_root_31
      | cons w la ih =>
        intro y H locs ls hy hW hro hH hl
        obtain ⟨hw, e1, hW2⟩ := pz_W_z hW
        refine wz_fld C hH hl 0 rfl 1 (by decide) q159 dX1_root_11 dX1_root_12 ?_
        refine lv_iload_n hx hb dX1_root_15 rfl (lv_at hl 1 rfl) ?_
        refine wz_ldv (v := (nI w)) C hH 1 (by decide) rfl rfl hy e1 dX1_root_16 ?_
        refine lv_if_lt (tgt := 30) hx hb dX1_root_17 (by decide) (fun c17 => ?_) (fun c17 => ?_)
        · exact absurd c17 (pz_nlt hw)
        · refine wz_fld C hH hl 0 rfl 1 (by decide) q159 dX1_root_20 dX1_root_21 ?_
          refine lv_iload_n hx hb dX1_root_24 rfl (lv_at hl 1 rfl) ?_
          refine wz_ldv (v := (nI w)) C hH 1 (by decide) rfl rfl hy e1 dX1_root_25 ?_
          refine lv_istore_n (lv' := [(2, .int (nI w)), (0, .ref h)]) hx hb dX1_root_26 rfl hl (by decide) rfl (fun ls hl => ?_)
          refine lv_goto (tgt := 11) hx hb dX1_root_27 (by decide) ?_
          exact ih w _ _ ls hw hW2 (pz_ro_nx hF hy hW hro) hH (lv_sub hl [1, 0] rfl)
    obtain ⟨l0, e0, -⟩ := pz_w_c hF hn
    have hW0 := hF n hn
    rw [e0] at hW0
    exact t11 l0 n _ _ ls hn hW0.2.2 rfl hH (lv_sub hl [1, 0] rfl)
  · have hbadv := hpv.elim (fun z => absurd z.1 c4) (fun z => z.2)
    refine lv_iconst (v := (-1)) hx hb dX1_root_7 (by decide) ?_
    exact wz_ri C hr hlocks hH (pz_pr (pz_on_b hbadv)) dX1_root_8

set_option maxHeartbeats 4000000 in
set_option maxRecDepth 100000 in
/-- depth -/
theorem wm_depth {l : Launch} {D : va_G} {h : Nat} {r : Nat → Nat} {ca : Nat → ClassId} {g : pz_S} {x : Int32} (hF : pz_Fo g) : wz_Mi l yX1_depth cX1_depth 4 .int ({ frames := 1, cells := 0, slots := 0, locals := 20 } : Room) D 1 2 h r wz_e1 ca g [.int x] (fun v g' => v = (pz_o7 g x).1 ∧ g' = (pz_o7 g x).2) := by
  refine wz_si (T := TX1) (by decide) (Nat.le_of_ble_eq_true rfl) rfl in_X1 ?_
  intro p e s m args below meth c A ls C hr hlocks hml hl hH
  have C : wz_C p s m args c cX1_depth D 1 2 RX1 TX1 wz_e1 ca A := C
  have hx := C.1
  have hb := C.2.1
  have hts := C.2.2.1
  have hl : lv_has ls 4 [(0, .ref h), (1, .int x)] := hl
  refine lv_iload_n hx hb dX1_depth_0 rfl (lv_at hl 1 rfl) ?_
  refine wz_cs C hml hl.1 hH (wm_bad (x := x)) (va_cwS 1 hts (lw_S q169 q170 q12 q171) rfl rfl rfl (by decide +kernel) ⟨Nat.le_of_ble_eq_true rfl, Nat.le_of_ble_eq_true rfl⟩) (Nat.le_of_ble_eq_true rfl) dX1_depth_1 ⟨Nat.zero_le _, Nat.zero_le _⟩ (fun v H locs hpv hH => ?_)
  refine lv_if_eq (tgt := 9) hx hb dX1_depth_4 (by decide) (fun c4 => ?_) (fun c4 => ?_)
  · obtain ⟨n, hn, exn⟩ := hpv.elim (fun z => z.2) (fun z => absurd (z.1.symm.trans c4) (by decide))
    subst exn
    refine lv_iconst (v := 0) hx hb dX1_depth_9 (by decide) ?_
    refine lv_istore_n (lv' := [(2, .int 0), (0, .ref h), (1, .int (nI n))]) hx hb dX1_depth_10 rfl hl (by decide) rfl (fun ls hl => ?_)
    refine lv_iload_n hx hb dX1_depth_11 rfl (lv_at hl 2 rfl) ?_
    refine lv_istore_n (lv' := [(3, .int (nI n)), (2, .int 0), (0, .ref h), (1, .int (nI n))]) hx hb dX1_depth_12 rfl hl (by decide) rfl (fun ls hl => ?_)
    have t13 : ∀ (la : List Nat) (y k : Nat) (H : Heap) (locs : List Loc) (ls : Array Slot), y < 24 → pz_W g la (g 1 y) → (pz_w g n).length = k + la.length + 1 → wz_H D 1 2 h r ca g A s.heap H locs → lv_has ls 4 [(0, .ref h), (2, .int (nI k)), (3, .int (nI y))] → W p l e ({ frames := 1, cells := 0, slots := 0, locals := 20 } : Room) s m args below meth c H locs 0 0 (wz_Qi below (fun v g' => v = (pz_o7 g (nI n)).1 ∧ g' = (pz_o7 g (nI n)).2) D 1 2 h r wz_e1 ca A args s) (F0 m 13 ls []) := by
      intro la
      induction la with
      | nil =>
        intro y k H locs ls hy hW hk hH hl
        have e1 := pz_W_0 hW
        refine wz_fld C hH hl 0 rfl 1 (by decide) q159 dX1_depth_13 dX1_depth_14 ?_
        refine lv_iload_n hx hb dX1_depth_17 rfl (lv_at hl 2 rfl) ?_
        refine wz_ldv (v := (-1)) C hH 1 (by decide) rfl rfl hy e1 dX1_depth_18 ?_
        refine lv_if_lt (tgt := 35) hx hb dX1_depth_19 (by decide) (fun _ => ?_) (fun c19 => absurd (by decide) c19)
        refine lv_iload_n hx hb dX1_depth_35 rfl (lv_at hl 1 rfl) ?_
        exact wz_ri C hr hlocks hH (pz_pr ((pz_o7_n hn).trans (by rw [hk]; exact congrArg (fun z => (z, g)) (nI_pred k)))) dX1_depth_36
      | cons w la ih =>
        intro y k H locs ls hy hW hk hH hl
        obtain ⟨hw, e1, hW2⟩ := pz_W_z hW
        refine wz_fld C hH hl 0 rfl 1 (by decide) q159 dX1_depth_13 dX1_depth_14 ?_
        refine lv_iload_n hx hb dX1_depth_17 rfl (lv_at hl 2 rfl) ?_
        refine wz_ldv (v := (nI w)) C hH 1 (by decide) rfl rfl hy e1 dX1_depth_18 ?_
        refine lv_if_lt (tgt := 35) hx hb dX1_depth_19 (by decide) (fun c19 => ?_) (fun c19 => ?_)
        · exact absurd c19 (pz_nlt hw)
        · refine wz_fld C hH hl 0 rfl 1 (by decide) q159 dX1_depth_22 dX1_depth_23 ?_
          refine lv_iload_n hx hb dX1_depth_26 rfl (lv_at hl 2 rfl) ?_
          refine wz_ldv (v := (nI w)) C hH 1 (by decide) rfl rfl hy e1 dX1_depth_27 ?_
          refine lv_istore_n (lv' := [(3, .int (nI w)), (0, .ref h), (2, .int (nI k))]) hx hb dX1_depth_28 rfl hl (by decide) rfl (fun ls hl => ?_)
          refine lv_iinc (v := (nI (k + 1))) (lv' := [(2, .int (nI (k + 1))), (3, .int (nI w)), (0, .ref h)]) hx hb dX1_depth_29 hl (k := 2) rfl (nI_1 k) (by decide) rfl (fun ls hl => ?_)
          refine lv_goto (tgt := 13) hx hb dX1_depth_32 (by decide) ?_
          exact ih w (k + 1) _ _ ls hw hW2 (by rw [List.length_cons] at hk; omega) hH (lv_sub hl [2, 0, 1] rfl)
    obtain ⟨l0, e0, -⟩ := pz_w_c hF hn
    have hW0 := hF n hn
    rw [e0] at hW0
    exact t13 l0 n 0 _ _ ls hn hW0.2.2 (by rw [e0, List.length_cons]; omega) hH (lv_sub (l' := [(0, .ref h), (2, .int (nI 0)), (3, .int (nI n))]) hl [2, 1, 0] rfl)
  · have hbadv := hpv.elim (fun z => absurd z.1 c4) (fun z => z.2)
    refine lv_iconst (v := (-1)) hx hb dX1_depth_7 (by decide) ?_
    exact wz_ri C hr hlocks hH (pz_pr (pz_on_b hbadv)) dX1_depth_8

set_option maxHeartbeats 4000000 in
set_option maxRecDepth 100000 in
/-- sumUp -/
theorem wm_sumUp {l : Launch} {D : va_G} {h : Nat} {r : Nat → Nat} {ca : Nat → ClassId} {g : pz_S} {x : Int32} (hF : pz_Fo g) : wz_Mi l yX1_sumUp cX1_sumUp 4 .int ({ frames := 1, cells := 0, slots := 0, locals := 20 } : Room) D 1 2 h r wz_e1 ca g [.int x] (fun v g' => v = (pz_o8 g x).1 ∧ g' = (pz_o8 g x).2) := by
  refine wz_si (T := TX1) (by decide) (Nat.le_of_ble_eq_true rfl) rfl in_X1 ?_
  intro p e s m args below meth c A ls C hr hlocks hml hl hH
  have C : wz_C p s m args c cX1_sumUp D 1 2 RX1 TX1 wz_e1 ca A := C
  have hx := C.1
  have hb := C.2.1
  have hts := C.2.2.1
  have hl : lv_has ls 4 [(0, .ref h), (1, .int x)] := hl
  refine lv_iload_n hx hb dX1_sumUp_0 rfl (lv_at hl 1 rfl) ?_
  refine wz_cs C hml hl.1 hH (wm_bad (x := x)) (va_cwS 1 hts (lw_S q169 q170 q12 q171) rfl rfl rfl (by decide +kernel) ⟨Nat.le_of_ble_eq_true rfl, Nat.le_of_ble_eq_true rfl⟩) (Nat.le_of_ble_eq_true rfl) dX1_sumUp_1 ⟨Nat.zero_le _, Nat.zero_le _⟩ (fun v H locs hpv hH => ?_)
  refine lv_if_eq (tgt := 9) hx hb dX1_sumUp_4 (by decide) (fun c4 => ?_) (fun c4 => ?_)
  · obtain ⟨n, hn, exn⟩ := hpv.elim (fun z => z.2) (fun z => absurd (z.1.symm.trans c4) (by decide))
    subst exn
    refine lv_iconst (v := 0) hx hb dX1_sumUp_9 (by decide) ?_
    refine lv_istore_n (lv' := [(2, .int 0), (0, .ref h), (1, .int (nI n))]) hx hb dX1_sumUp_10 rfl hl (by decide) rfl (fun ls hl => ?_)
    refine lv_iload_n hx hb dX1_sumUp_11 rfl (lv_at hl 2 rfl) ?_
    refine lv_istore_n (lv' := [(3, .int (nI n)), (2, .int 0), (0, .ref h), (1, .int (nI n))]) hx hb dX1_sumUp_12 rfl hl (by decide) rfl (fun ls hl => ?_)
    have t13 : ∀ (la : List Nat) (q y : Int32) (H : Heap) (locs : List Loc) (ls : Array Slot), pz_W g la y → q + pz_sl (g 0) la = pz_sl (g 0) (pz_w g n) → wz_H D 1 2 h r ca g A s.heap H locs → lv_has ls 4 [(0, .ref h), (2, .int q), (3, .int y)] → W p l e ({ frames := 1, cells := 0, slots := 0, locals := 20 } : Room) s m args below meth c H locs 0 0 (wz_Qi below (fun v g' => v = (pz_o8 g (nI n)).1 ∧ g' = (pz_o8 g (nI n)).2) D 1 2 h r wz_e1 ca A args s) (F0 m 13 ls []) := by
      intro la
      induction la with
      | nil =>
        intro q y H locs ls hW hs hH hl
        have e1 := pz_W_0 hW
        subst e1
        refine lv_iload_n hx hb dX1_sumUp_13 rfl (lv_at hl 2 rfl) ?_
        refine lv_if_lt (tgt := 36) hx hb dX1_sumUp_14 (by decide) (fun _ => ?_) (fun c14 => absurd (by decide) c14)
        refine lv_iload_n hx hb dX1_sumUp_36 rfl (lv_at hl 1 rfl) ?_
        exact wz_ri C hr hlocks hH (pz_pr ((pz_o8_n hn).trans ((congrArg (fun z => (z, g)) hs.symm).trans (by show (q + 0, g) = (q, g); rw [Int32.add_zero])))) dX1_sumUp_37
      | cons w la ih =>
        intro q y H locs ls hW hs hH hl
        obtain ⟨hw, e1, hW2⟩ := pz_W_z hW
        subst e1
        refine lv_iload_n hx hb dX1_sumUp_13 rfl (lv_at hl 2 rfl) ?_
        refine lv_if_lt (tgt := 36) hx hb dX1_sumUp_14 (by decide) (fun c14 => ?_) (fun c14 => ?_)
        · exact absurd c14 (pz_nlt hw)
        · refine lv_iload_n hx hb dX1_sumUp_17 rfl (lv_at hl 1 rfl) ?_
          refine wz_fld C hH hl 0 rfl 0 (by decide) q158 dX1_sumUp_18 dX1_sumUp_19 ?_
          refine lv_iload_n hx hb dX1_sumUp_22 rfl (lv_at hl 2 rfl) ?_
          refine wz_ld C hH 0 (by decide) rfl rfl hw dX1_sumUp_23 ?_
          refine lv_iadd hx hb dX1_sumUp_24 ?_
          refine lv_istore_n (lv' := [(2, .int (q + (g 0 w))), (0, .ref h), (3, .int (nI w))]) hx hb dX1_sumUp_25 rfl hl (by decide) rfl (fun ls hl => ?_)
          refine wz_fld C hH hl 1 rfl 1 (by decide) q159 dX1_sumUp_26 dX1_sumUp_27 ?_
          refine lv_iload_n hx hb dX1_sumUp_30 rfl (lv_at hl 2 rfl) ?_
          refine wz_ld C hH 1 (by decide) rfl rfl hw dX1_sumUp_31 ?_
          refine lv_istore_n (lv' := [(3, .int (g 1 w)), (2, .int (q + (g 0 w))), (0, .ref h)]) hx hb dX1_sumUp_32 rfl hl (by decide) rfl (fun ls hl => ?_)
          refine lv_goto (tgt := 13) hx hb dX1_sumUp_33 (by decide) ?_
          exact ih _ _ _ _ ls hW2 (by rw [← hs]; show q + g 0 w + pz_sl (g 0) la = q + (g 0 w + pz_sl (g 0) la); rw [Int32.add_assoc]) hH (lv_sub hl [2, 1, 0] rfl)
    exact t13 (pz_w g n) 0 (nI n) _ _ ls (hF n hn) (by simp) hH (lv_sub hl [2, 1, 0] rfl)
  · have hbadv := hpv.elim (fun z => absurd z.1 c4) (fun z => z.2)
    refine lv_iconst (v := 0) hx hb dX1_sumUp_7 (by decide) ?_
    exact wz_ri C hr hlocks hH (pz_pr (pz_on_b hbadv)) dX1_sumUp_8

set_option maxHeartbeats 4000000 in
set_option maxRecDepth 100000 in
/-- leastUp -/
theorem wm_leastUp {l : Launch} {D : va_G} {h : Nat} {r : Nat → Nat} {ca : Nat → ClassId} {g : pz_S} {x : Int32} (hF : pz_Fo g) : wz_Mi l yX1_leastUp cX1_leastUp 4 .int ({ frames := 1, cells := 0, slots := 0, locals := 20 } : Room) D 1 2 h r wz_e1 ca g [.int x] (fun v g' => v = (pz_o9 g x).1 ∧ g' = (pz_o9 g x).2) := by
  refine wz_si (T := TX1) (by decide) (Nat.le_of_ble_eq_true rfl) rfl in_X1 ?_
  intro p e s m args below meth c A ls C hr hlocks hml hl hH
  have C : wz_C p s m args c cX1_leastUp D 1 2 RX1 TX1 wz_e1 ca A := C
  have hx := C.1
  have hb := C.2.1
  have hts := C.2.2.1
  have hl : lv_has ls 4 [(0, .ref h), (1, .int x)] := hl
  refine lv_iload_n hx hb dX1_leastUp_0 rfl (lv_at hl 1 rfl) ?_
  refine wz_cs C hml hl.1 hH (wm_bad (x := x)) (va_cwS 1 hts (lw_S q169 q170 q12 q171) rfl rfl rfl (by decide +kernel) ⟨Nat.le_of_ble_eq_true rfl, Nat.le_of_ble_eq_true rfl⟩) (Nat.le_of_ble_eq_true rfl) dX1_leastUp_1 ⟨Nat.zero_le _, Nat.zero_le _⟩ (fun v H locs hpv hH => ?_)
  refine lv_if_eq (tgt := 9) hx hb dX1_leastUp_4 (by decide) (fun c4 => ?_) (fun c4 => ?_)
  · obtain ⟨n, hn, exn⟩ := hpv.elim (fun z => z.2) (fun z => absurd (z.1.symm.trans c4) (by decide))
    subst exn
    refine wz_fld C hH hl 0 rfl 0 (by decide) q158 dX1_leastUp_9 dX1_leastUp_10 ?_
    refine lv_iload_n hx hb dX1_leastUp_13 rfl (lv_at hl 1 rfl) ?_
    refine wz_ld C hH 0 (by decide) rfl rfl hn dX1_leastUp_14 ?_
    refine lv_istore_n (lv' := [(2, .int (g 0 n)), (0, .ref h), (1, .int (nI n))]) hx hb dX1_leastUp_15 rfl hl (by decide) rfl (fun ls hl => ?_)
    refine wz_fld C hH hl 1 rfl 1 (by decide) q159 dX1_leastUp_16 dX1_leastUp_17 ?_
    refine lv_iload_n hx hb dX1_leastUp_20 rfl (lv_at hl 2 rfl) ?_
    refine wz_ld C hH 1 (by decide) rfl rfl hn dX1_leastUp_21 ?_
    refine lv_istore_n (lv' := [(3, .int (g 1 n)), (2, .int (g 0 n)), (0, .ref h), (1, .int (nI n))]) hx hb dX1_leastUp_22 rfl hl (by decide) rfl (fun ls hl => ?_)
    have t23 : ∀ (la : List Nat) (q y : Int32) (H : Heap) (locs : List Loc) (ls : Array Slot), pz_W g la y → pz_lf g q la = pz_lf g (g 0 n) (pz_w g n).tail → wz_H D 1 2 h r ca g A s.heap H locs → lv_has ls 4 [(0, .ref h), (2, .int q), (3, .int y)] → W p l e ({ frames := 1, cells := 0, slots := 0, locals := 20 } : Room) s m args below meth c H locs 0 0 (wz_Qi below (fun v g' => v = (pz_o9 g (nI n)).1 ∧ g' = (pz_o9 g (nI n)).2) D 1 2 h r wz_e1 ca A args s) (F0 m 23 ls []) := by
      intro la
      induction la with
      | nil =>
        intro q y H locs ls hW hs hH hl
        have e1 := pz_W_0 hW
        subst e1
        refine lv_iload_n hx hb dX1_leastUp_23 rfl (lv_at hl 2 rfl) ?_
        refine lv_if_lt (tgt := 54) hx hb dX1_leastUp_24 (by decide) (fun _ => ?_) (fun c24 => absurd (by decide) c24)
        refine lv_iload_n hx hb dX1_leastUp_54 rfl (lv_at hl 1 rfl) ?_
        exact wz_ri C hr hlocks hH (pz_pr ((pz_o9_n hn).trans (congrArg (fun z => (z, g)) hs.symm))) dX1_leastUp_55
      | cons w la ih =>
        intro q y H locs ls hW hs hH hl
        obtain ⟨hw, e1, hW2⟩ := pz_W_z hW
        subst e1
        refine lv_iload_n hx hb dX1_leastUp_23 rfl (lv_at hl 2 rfl) ?_
        refine lv_if_lt (tgt := 54) hx hb dX1_leastUp_24 (by decide) (fun c24 => ?_) (fun c24 => ?_)
        · exact absurd c24 (pz_nlt hw)
        · refine wz_fld C hH hl 0 rfl 0 (by decide) q158 dX1_leastUp_27 dX1_leastUp_28 ?_
          refine lv_iload_n hx hb dX1_leastUp_31 rfl (lv_at hl 2 rfl) ?_
          refine wz_ld C hH 0 (by decide) rfl rfl hw dX1_leastUp_32 ?_
          refine lv_iload_n hx hb dX1_leastUp_33 rfl (lv_at hl 1 rfl) ?_
          refine lv_icmp_ge (tgt := 44) hx hb dX1_leastUp_34 (by decide) (fun c34 => ?_) (fun c34 => ?_)
          · refine wz_fld C hH hl 0 rfl 1 (by decide) q159 dX1_leastUp_44 dX1_leastUp_45 ?_
            refine lv_iload_n hx hb dX1_leastUp_48 rfl (lv_at hl 2 rfl) ?_
            refine wz_ld C hH 1 (by decide) rfl rfl hw dX1_leastUp_49 ?_
            refine lv_istore_n (lv' := [(3, .int (g 1 w)), (0, .ref h), (2, .int q)]) hx hb dX1_leastUp_50 rfl hl (by decide) rfl (fun ls hl => ?_)
            refine lv_goto (tgt := 23) hx hb dX1_leastUp_51 (by decide) ?_
            exact ih _ _ _ _ ls hW2 (by rw [← hs]; show pz_lf g q la = pz_lf g (if g 0 w < q then g 0 w else q) la; rw [if_neg (Int32.not_lt.mpr c34)]) hH (lv_sub hl [1, 2, 0] rfl)
          · refine wz_fld C hH hl 0 rfl 0 (by decide) q158 dX1_leastUp_37 dX1_leastUp_38 ?_
            refine lv_iload_n hx hb dX1_leastUp_41 rfl (lv_at hl 2 rfl) ?_
            refine wz_ld C hH 0 (by decide) rfl rfl hw dX1_leastUp_42 ?_
            refine lv_istore_n (lv' := [(2, .int (g 0 w)), (0, .ref h), (3, .int (nI w))]) hx hb dX1_leastUp_43 rfl hl (by decide) rfl (fun ls hl => ?_)
            refine wz_fld C hH hl 1 rfl 1 (by decide) q159 dX1_leastUp_44 dX1_leastUp_45 ?_
            refine lv_iload_n hx hb dX1_leastUp_48 rfl (lv_at hl 2 rfl) ?_
            refine wz_ld C hH 1 (by decide) rfl rfl hw dX1_leastUp_49 ?_
            refine lv_istore_n (lv' := [(3, .int (g 1 w)), (2, .int (g 0 w)), (0, .ref h)]) hx hb dX1_leastUp_50 rfl hl (by decide) rfl (fun ls hl => ?_)
            refine lv_goto (tgt := 23) hx hb dX1_leastUp_51 (by decide) ?_
            exact ih _ _ _ _ ls hW2 (by rw [← hs]; show pz_lf g (g 0 w) la = pz_lf g (if g 0 w < q then g 0 w else q) la; rw [if_pos (Int32.not_le.mp c34)]) hH (lv_sub hl [2, 1, 0] rfl)
    obtain ⟨l0, e0, hW0⟩ := pz_w_c hF hn
    exact t23 l0 (g 0 n) (g 1 n) _ _ ls hW0 (by rw [e0]; rfl) hH (lv_sub hl [2, 1, 0] rfl)
  · have hbadv := hpv.elim (fun z => absurd z.1 c4) (fun z => z.2)
    refine lv_iconst (v := 0) hx hb dX1_leastUp_7 (by decide) ?_
    exact wz_ri C hr hlocks hH (pz_pr (pz_on_b hbadv)) dX1_leastUp_8

set_option maxHeartbeats 4000000 in
set_option maxRecDepth 100000 in
/-- paint -/
theorem wm_paint {l : Launch} {D : va_G} {h : Nat} {r : Nat → Nat} {ca : Nat → ClassId} {g : pz_S} {x y : Int32} (hF : pz_Fo g) : wz_Mi l yX1_paint cX1_paint 5 .int ({ frames := 1, cells := 0, slots := 0, locals := 20 } : Room) D 1 2 h r wz_e1 ca g [.int x, .int y] (fun v g' => v = (pz_o4 g x y).1 ∧ g' = (pz_o4 g x y).2) := by
  refine wz_si (T := TX1) (by decide) (Nat.le_of_ble_eq_true rfl) rfl in_X1 ?_
  intro p e s m args below meth c A ls C hr hlocks hml hl hH
  have C : wz_C p s m args c cX1_paint D 1 2 RX1 TX1 wz_e1 ca A := C
  have hx := C.1
  have hb := C.2.1
  have hts := C.2.2.1
  have hl : lv_has ls 5 [(0, .ref h), (1, .int x), (2, .int y)] := hl
  refine lv_iload_n hx hb dX1_paint_0 rfl (lv_at hl 1 rfl) ?_
  refine wz_cs C hml hl.1 hH (wm_bad (x := x)) (va_cwS 1 hts (lw_S q169 q170 q12 q171) rfl rfl rfl (by decide +kernel) ⟨Nat.le_of_ble_eq_true rfl, Nat.le_of_ble_eq_true rfl⟩) (Nat.le_of_ble_eq_true rfl) dX1_paint_1 ⟨Nat.zero_le _, Nat.zero_le _⟩ (fun v H locs hpv hH => ?_)
  refine lv_if_eq (tgt := 9) hx hb dX1_paint_4 (by decide) (fun c4 => ?_) (fun c4 => ?_)
  · obtain ⟨n, hn, exn⟩ := hpv.elim (fun z => z.2) (fun z => absurd (z.1.symm.trans c4) (by decide))
    subst exn
    refine lv_iconst (v := 0) hx hb dX1_paint_9 (by decide) ?_
    refine lv_istore_n (lv' := [(3, .int 0), (0, .ref h), (1, .int (nI n)), (2, .int y)]) hx hb dX1_paint_10 rfl hl (by decide) rfl (fun ls hl => ?_)
    refine lv_iload_n hx hb dX1_paint_11 rfl (lv_at hl 2 rfl) ?_
    refine lv_istore (lv' := [(4, .int (nI n)), (3, .int 0), (0, .ref h), (1, .int (nI n)), (2, .int y)]) hx hb dX1_paint_12 hl (by decide) rfl (fun ls hl => ?_)
    have t14 : ∀ (la : List Nat) (u : Int32) (k : Nat) (pr : List Nat) (H : Heap) (locs : List Loc) (ls : Array Slot), pz_W g la u → pz_w g n = pr ++ la → k = pr.length → wz_H D 1 2 h r ca (pz_mp g pr y) A s.heap H locs → lv_has ls 5 [(0, .ref h), (2, .int y), (3, .int (nI k)), (4, .int u)] → W p l e ({ frames := 1, cells := 0, slots := 0, locals := 20 } : Room) s m args below meth c H locs 0 0 (wz_Qi below (fun v g' => v = (pz_o4 g (nI n) y).1 ∧ g' = (pz_o4 g (nI n) y).2) D 1 2 h r wz_e1 ca A args s) (F0 m 14 ls []) := by
      intro la
      induction la with
      | nil =>
        intro u k pr H locs ls hW hpr hk hH hl
        have e1 := pz_W_0 hW
        subst e1
        rw [List.append_nil] at hpr
        refine lv_iload hx hb dX1_paint_14 (lv_at hl 3 rfl) ?_
        refine lv_if_lt (tgt := 42) hx hb dX1_paint_16 (by decide) (fun _ => ?_) (fun c16 => absurd (by decide) c16)
        refine lv_iload_n hx hb dX1_paint_42 rfl (lv_at hl 2 rfl) ?_
        exact wz_ri C hr hlocks hH (pz_pr ((pz_o4_n hn).trans (by rw [hpr, ← hk]))) dX1_paint_43
      | cons w la ih =>
        intro u k pr H locs ls hW hpr hk hH hl
        obtain ⟨hw, e1, hW2⟩ := pz_W_z hW
        subst e1
        refine lv_iload hx hb dX1_paint_14 (lv_at hl 3 rfl) ?_
        refine lv_if_lt (tgt := 42) hx hb dX1_paint_16 (by decide) (fun c16 => ?_) (fun c16 => ?_)
        · exact absurd c16 (pz_nlt hw)
        · refine wz_fld C hH hl 0 rfl 0 (by decide) q158 dX1_paint_19 dX1_paint_20 ?_
          refine lv_iload hx hb dX1_paint_23 (lv_at hl 3 rfl) ?_
          refine lv_iload_n hx hb dX1_paint_25 rfl (lv_at hl 1 rfl) ?_
          refine wz_st C hH 0 (by decide) rfl rfl hw dX1_paint_26 (fun H locs hH => ?_)
          rw [pz_mp_snoc] at hH
          refine lv_iinc (v := (nI (k + 1))) (lv' := [(3, .int (nI (k + 1))), (0, .ref h), (2, .int y), (4, .int (nI w))]) hx hb dX1_paint_27 hl (k := 2) rfl (nI_1 k) (by decide) rfl (fun ls hl => ?_)
          refine wz_fld C hH hl 1 rfl 1 (by decide) q159 dX1_paint_30 dX1_paint_31 ?_
          refine lv_iload hx hb dX1_paint_34 (lv_at hl 3 rfl) ?_
          refine wz_ldv (v := (g 1 w)) C hH 1 (by decide) rfl rfl hw pz_mp_1 dX1_paint_36 ?_
          refine lv_istore (lv' := [(4, .int (g 1 w)), (3, .int (nI (k + 1))), (0, .ref h), (2, .int y)]) hx hb dX1_paint_37 hl (by decide) rfl (fun ls hl => ?_)
          refine lv_goto (tgt := 14) hx hb dX1_paint_39 (by decide) ?_
          exact ih _ (k + 1) (pr ++ [w]) _ _ ls hW2 (by rw [hpr, List.append_assoc]; rfl) (by rw [List.length_append, hk, List.length_singleton]) hH (lv_sub hl [2, 3, 1, 0] rfl)
    exact t14 (pz_w g n) (nI n) 0 [] _ _ ls (hF n hn) rfl rfl (by rw [pz_mp_nil]; exact hH) (lv_sub (l' := [(0, .ref h), (2, .int y), (3, .int (nI 0)), (4, .int (nI n))]) hl [2, 4, 1, 0] rfl)
  · have hbadv := hpv.elim (fun z => absurd z.1 c4) (fun z => z.2)
    refine lv_iconst (v := (-1)) hx hb dX1_paint_7 (by decide) ?_
    exact wz_ri C hr hlocks hH (pz_pr (pz_on_b hbadv)) dX1_paint_8

set_option maxHeartbeats 4000000 in
set_option maxRecDepth 100000 in
/-- turn -/
theorem wm_turn {l : Launch} {D : va_G} {h : Nat} {r : Nat → Nat} {ca : Nat → ClassId} {g : pz_S} {x : Int32} (hF : pz_Fo g) : wz_Mi l yX1_turn cX1_turn 5 .int ({ frames := 1, cells := 0, slots := 0, locals := 20 } : Room) D 1 2 h r wz_e1 ca g [.int x] (fun v g' => v = (pz_o2 g x).1 ∧ g' = (pz_o2 g x).2) := by
  refine wz_si (T := TX1) (by decide) (Nat.le_of_ble_eq_true rfl) rfl in_X1 ?_
  intro p e s m args below meth c A ls C hr hlocks hml hl hH
  have C : wz_C p s m args c cX1_turn D 1 2 RX1 TX1 wz_e1 ca A := C
  have hx := C.1
  have hb := C.2.1
  have hts := C.2.2.1
  have hl : lv_has ls 5 [(0, .ref h), (1, .int x)] := hl
  refine lv_iload_n hx hb dX1_turn_0 rfl (lv_at hl 1 rfl) ?_
  refine wz_cs C hml hl.1 hH (wm_bad (x := x)) (va_cwS 1 hts (lw_S q169 q170 q12 q171) rfl rfl rfl (by decide +kernel) ⟨Nat.le_of_ble_eq_true rfl, Nat.le_of_ble_eq_true rfl⟩) (Nat.le_of_ble_eq_true rfl) dX1_turn_1 ⟨Nat.zero_le _, Nat.zero_le _⟩ (fun v H locs hpv hH => ?_)
  refine lv_if_eq (tgt := 9) hx hb dX1_turn_4 (by decide) (fun c4 => ?_) (fun c4 => ?_)
  · obtain ⟨n, hn, exn⟩ := hpv.elim (fun z => z.2) (fun z => absurd (z.1.symm.trans c4) (by decide))
    subst exn
    refine lv_iconst (v := (-1)) hx hb dX1_turn_9 (by decide) ?_
    refine lv_istore_n (lv' := [(2, .int (-1)), (0, .ref h), (1, .int (nI n))]) hx hb dX1_turn_10 rfl hl (by decide) rfl (fun ls hl => ?_)
    refine lv_iload_n hx hb dX1_turn_11 rfl (lv_at hl 2 rfl) ?_
    refine lv_istore_n (lv' := [(3, .int (nI n)), (2, .int (-1)), (0, .ref h), (1, .int (nI n))]) hx hb dX1_turn_12 rfl hl (by decide) rfl (fun ls hl => ?_)
    have t13 : ∀ (la : List Nat) (G : pz_S) (b u : Int32) (H : Heap) (locs : List Loc) (ls : Array Slot), pz_W g la u → pz_Tu g n G b la → wz_H D 1 2 h r ca G A s.heap H locs → lv_has ls 5 [(0, .ref h), (2, .int b), (3, .int u)] → W p l e ({ frames := 1, cells := 0, slots := 0, locals := 20 } : Room) s m args below meth c H locs 0 0 (wz_Qi below (fun v g' => v = (pz_o2 g (nI n)).1 ∧ g' = (pz_o2 g (nI n)).2) D 1 2 h r wz_e1 ca A args s) (F0 m 13 ls []) := by
      intro la
      induction la with
      | nil =>
        intro G b u H locs ls hW hT hH hl
        have e1 := pz_W_0 hW
        subst e1
        refine lv_iload_n hx hb dX1_turn_13 rfl (lv_at hl 2 rfl) ?_
        refine lv_if_lt (tgt := 40) hx hb dX1_turn_14 (by decide) (fun _ => ?_) (fun c14 => absurd (by decide) c14)
        refine lv_iload_n hx hb dX1_turn_40 rfl (lv_at hl 1 rfl) ?_
        exact wz_ri C hr hlocks hH (pz_pr ((pz_o2_n hn).trans (pz_Tu_e hT))) dX1_turn_41
      | cons w la ih =>
        intro G b u H locs ls hW hT hH hl
        obtain ⟨hw, e1, hW2⟩ := pz_W_z hW
        subst e1
        have eG : G 1 w = g 1 w := hT.2.1 w List.mem_cons_self
        refine lv_iload_n hx hb dX1_turn_13 rfl (lv_at hl 2 rfl) ?_
        refine lv_if_lt (tgt := 40) hx hb dX1_turn_14 (by decide) (fun c14 => ?_) (fun c14 => ?_)
        · exact absurd c14 (pz_nlt hw)
        · refine wz_fld C hH hl 0 rfl 1 (by decide) q159 dX1_turn_17 dX1_turn_18 ?_
          refine lv_iload_n hx hb dX1_turn_21 rfl (lv_at hl 2 rfl) ?_
          refine wz_ldv (v := (g 1 w)) C hH 1 (by decide) rfl rfl hw eG dX1_turn_22 ?_
          refine lv_istore (lv' := [(4, .int (g 1 w)), (0, .ref h), (2, .int b), (3, .int (nI w))]) hx hb dX1_turn_23 hl (by decide) rfl (fun ls hl => ?_)
          refine wz_fld C hH hl 1 rfl 1 (by decide) q159 dX1_turn_25 dX1_turn_26 ?_
          refine lv_iload_n hx hb dX1_turn_29 rfl (lv_at hl 3 rfl) ?_
          refine lv_iload_n hx hb dX1_turn_30 rfl (lv_at hl 2 rfl) ?_
          refine wz_st C hH 1 (by decide) rfl rfl hw dX1_turn_31 (fun H locs hH => ?_)
          refine lv_iload_n hx hb dX1_turn_32 rfl (lv_at hl 3 rfl) ?_
          refine lv_istore_n (lv' := [(2, .int (nI w)), (4, .int (g 1 w)), (0, .ref h), (3, .int (nI w))]) hx hb dX1_turn_33 rfl hl (by decide) rfl (fun ls hl => ?_)
          refine lv_iload hx hb dX1_turn_34 (lv_at hl 1 rfl) ?_
          refine lv_istore_n (lv' := [(3, .int (g 1 w)), (2, .int (nI w)), (4, .int (g 1 w)), (0, .ref h)]) hx hb dX1_turn_36 rfl hl (by decide) rfl (fun ls hl => ?_)
          refine lv_goto (tgt := 13) hx hb dX1_turn_37 (by decide) ?_
          exact ih _ _ _ _ _ ls hW2 (pz_Tu_s hF hw hW2 hT) hH (lv_sub hl [3, 1, 0] rfl)
    exact t13 (pz_w g n) g (-1) (nI n) _ _ ls (hF n hn) (pz_Tu_0 hF hn) hH (lv_sub hl [2, 1, 0] rfl)
  · have hbadv := hpv.elim (fun z => absurd z.1 c4) (fun z => z.2)
    refine lv_iconst (v := (-1)) hx hb dX1_turn_7 (by decide) ?_
    exact wz_ri C hr hlocks hH (pz_pr (pz_on_b hbadv)) dX1_turn_8

set_option maxHeartbeats 4000000 in
set_option maxRecDepth 100000 in
/-- onWay -/
theorem wm_onWay {l : Launch} {D : va_G} {h : Nat} {r : Nat → Nat} {ca : Nat → ClassId} {g : pz_S} {a b : Nat} (ha : a < 24) (hb9 : b < 24) (hF : pz_Fo g) : wz_Mi l yX1_onWay cX1_onWay 4 .boolean ({ frames := 0, cells := 0, slots := 0, locals := 0 } : Room) D 1 2 h r wz_e1 ca g [.int (nI a), .int (nI b)] (fun v g' => g' = g ∧ ((v = 1 ∧ a ∈ pz_w g b) ∨ (v = 0 ∧ a ∉ pz_w g b))) := by
  refine wz_si (T := TX1) (by decide) (Nat.le_of_ble_eq_true rfl) rfl in_X1 ?_
  intro p e s m args below meth c A ls C hr hlocks hml hl hH
  have C : wz_C p s m args c cX1_onWay D 1 2 RX1 TX1 wz_e1 ca A := C
  have hx := C.1
  have hb := C.2.1
  have hts := C.2.2.1
  have hl : lv_has ls 4 [(0, .ref h), (1, .int (nI a)), (2, .int (nI b))] := hl
  refine lv_iload_n hx hb dX1_onWay_0 rfl (lv_at hl 2 rfl) ?_
  refine lv_istore_n (lv' := [(3, .int (nI b)), (0, .ref h), (1, .int (nI a)), (2, .int (nI b))]) hx hb dX1_onWay_1 rfl hl (by decide) rfl (fun ls hl => ?_)
  have t2 : ∀ (la : List Nat) (u : Int32) (H : Heap) (locs : List Loc) (ls : Array Slot), pz_W g la u → (a ∈ la ↔ a ∈ pz_w g b) → wz_H D 1 2 h r ca g A s.heap H locs → lv_has ls 4 [(0, .ref h), (1, .int (nI a)), (3, .int u)] → W p l e ({ frames := 0, cells := 0, slots := 0, locals := 0 } : Room) s m args below meth c H locs 0 0 (wz_Qi below (fun v g' => g' = g ∧ ((v = 1 ∧ a ∈ pz_w g b) ∨ (v = 0 ∧ a ∉ pz_w g b))) D 1 2 h r wz_e1 ca A args s) (F0 m 2 ls []) := by
    intro la
    induction la with
    | nil =>
      intro u H locs ls hW hm hH hl
      have e1 := pz_W_0 hW
      subst e1
      refine lv_iload_n hx hb dX1_onWay_2 rfl (lv_at hl 2 rfl) ?_
      refine lv_if_lt (tgt := 21) hx hb dX1_onWay_3 (by decide) (fun _ => ?_) (fun c3 => absurd (by decide) c3)
      refine lv_iload_n hx hb dX1_onWay_21 rfl (lv_at hl 2 rfl) ?_
      refine lv_iload_n hx hb dX1_onWay_22 rfl (lv_at hl 1 rfl) ?_
      refine lv_icmp_ne (tgt := 30) hx hb dX1_onWay_23 (by decide) (fun c23 => ?_) (fun c23 => ?_)
      · refine lv_iconst (v := 0) hx hb dX1_onWay_30 (by decide) ?_
        exact wz_rz C hr hlocks rfl hH (⟨rfl, Or.inr ⟨rfl, fun z => absurd (hm.mpr z) List.not_mem_nil⟩⟩) dX1_onWay_31
      · exact absurd c23.symm (pz_nm ha)
    | cons w la ih =>
      intro u H locs ls hW hm hH hl
      obtain ⟨hw, e1, hW2⟩ := pz_W_z hW
      subst e1
      refine lv_iload_n hx hb dX1_onWay_2 rfl (lv_at hl 2 rfl) ?_
      refine lv_if_lt (tgt := 21) hx hb dX1_onWay_3 (by decide) (fun c3 => ?_) (fun c3 => ?_)
      · exact absurd c3 (pz_nlt hw)
      · refine lv_iload_n hx hb dX1_onWay_6 rfl (lv_at hl 2 rfl) ?_
        refine lv_iload_n hx hb dX1_onWay_7 rfl (lv_at hl 1 rfl) ?_
        refine lv_icmp_eq (tgt := 21) hx hb dX1_onWay_8 (by decide) (fun c8 => ?_) (fun c8 => ?_)
        · have ew := pz_inj hw ha c8
          refine lv_iload_n hx hb dX1_onWay_21 rfl (lv_at hl 2 rfl) ?_
          refine lv_iload_n hx hb dX1_onWay_22 rfl (lv_at hl 1 rfl) ?_
          refine lv_icmp_ne (tgt := 30) hx hb dX1_onWay_23 (by decide) (fun c23 => ?_) (fun c23 => ?_)
          · exact absurd c8 c23
          · refine lv_iconst (v := 1) hx hb dX1_onWay_26 (by decide) ?_
            refine lv_goto (tgt := 31) hx hb dX1_onWay_27 (by decide) ?_
            exact wz_rz C hr hlocks rfl hH (⟨rfl, Or.inl ⟨rfl, hm.mp (by rw [ew]; exact List.mem_cons_self)⟩⟩) dX1_onWay_31
        · refine wz_fld C hH hl 0 rfl 1 (by decide) q159 dX1_onWay_11 dX1_onWay_12 ?_
          refine lv_iload_n hx hb dX1_onWay_15 rfl (lv_at hl 2 rfl) ?_
          refine wz_ld C hH 1 (by decide) rfl rfl hw dX1_onWay_16 ?_
          refine lv_istore_n (lv' := [(3, .int (g 1 w)), (0, .ref h), (1, .int (nI a))]) hx hb dX1_onWay_17 rfl hl (by decide) rfl (fun ls hl => ?_)
          refine lv_goto (tgt := 2) hx hb dX1_onWay_18 (by decide) ?_
          exact ih _ _ _ ls hW2 ⟨fun z => hm.mp (List.mem_cons_of_mem _ z), fun z => (List.mem_cons.mp (hm.mpr z)).elim (fun y => absurd (congrArg nI y).symm c8) id⟩ hH (lv_sub hl [1, 2, 0] rfl)
  exact t2 (pz_w g b) (nI b) _ _ ls (hF b hb9) Iff.rfl hH (lv_sub hl [1, 2, 0] rfl)

set_option maxHeartbeats 4000000 in
set_option maxRecDepth 100000 in
/-- meet -/
theorem wm_meet {l : Launch} {D : va_G} {h : Nat} {r : Nat → Nat} {ca : Nat → ClassId} {g : pz_S} {x y : Int32} (hF : pz_Fo g) : wz_Mi l yX1_meet cX1_meet 4 .int ({ frames := 1, cells := 0, slots := 0, locals := 23 } : Room) D 1 2 h r wz_e1 ca g [.int x, .int y] (fun v g' => v = (pz_o10 g x y).1 ∧ g' = (pz_o10 g x y).2) := by
  refine wz_si (T := TX1) (by decide) (Nat.le_of_ble_eq_true rfl) rfl in_X1 ?_
  intro p e s m args below meth c A ls C hr hlocks hml hl hH
  have C : wz_C p s m args c cX1_meet D 1 2 RX1 TX1 wz_e1 ca A := C
  have hx := C.1
  have hb := C.2.1
  have hts := C.2.2.1
  have hl : lv_has ls 4 [(0, .ref h), (1, .int x), (2, .int y)] := hl
  refine lv_iload_n hx hb dX1_meet_0 rfl (lv_at hl 1 rfl) ?_
  refine wz_cs C hml hl.1 hH (wm_bad (x := x)) (va_cwS 1 hts (lw_S q169 q170 q12 q171) rfl rfl rfl (by decide +kernel) ⟨Nat.le_of_ble_eq_true rfl, Nat.le_of_ble_eq_true rfl⟩) (Nat.le_of_ble_eq_true rfl) dX1_meet_1 ⟨Nat.zero_le _, Nat.zero_le _⟩ (fun v H locs hpv hH => ?_)
  refine lv_if_ne (tgt := 14) hx hb dX1_meet_4 (by decide) (fun c4 => ?_) (fun c4 => ?_)
  · have hbadv := hpv.elim (fun z => absurd z.1 c4) (fun z => z.2)
    refine lv_iconst (v := (-1)) hx hb dX1_meet_14 (by decide) ?_
    exact wz_ri C hr hlocks hH (pz_pr (pz_on_b hbadv)) dX1_meet_15
  · obtain ⟨a, ha, exa⟩ := hpv.elim (fun z => z.2) (fun z => absurd (z.1.symm.trans c4) (by decide))
    subst exa
    refine lv_iload_n hx hb dX1_meet_7 rfl (lv_at hl 2 rfl) ?_
    refine wz_cs C hml hl.1 hH (wm_bad (x := y)) (va_cwS 1 hts (lw_S q169 q170 q12 q171) rfl rfl rfl (by decide +kernel) ⟨Nat.le_of_ble_eq_true rfl, Nat.le_of_ble_eq_true rfl⟩) (Nat.le_of_ble_eq_true rfl) dX1_meet_8 ⟨Nat.zero_le _, Nat.zero_le _⟩ (fun w H locs hpw hH => ?_)
    refine lv_if_eq (tgt := 16) hx hb dX1_meet_11 (by decide) (fun c11 => ?_) (fun c11 => ?_)
    · obtain ⟨b, hb9, exb⟩ := hpw.elim (fun z => z.2) (fun z => absurd (z.1.symm.trans c11) (by decide))
      subst exb
      refine lv_iload_n hx hb dX1_meet_16 rfl (lv_at hl 1 rfl) ?_
      refine lv_istore_n (lv' := [(3, .int (nI a)), (0, .ref h), (1, .int (nI a)), (2, .int (nI b))]) hx hb dX1_meet_17 rfl hl (by decide) rfl (fun ls hl => ?_)
      have t18 : ∀ (la : List Nat) (u : Int32) (H : Heap) (locs : List Loc) (ls : Array Slot), pz_W g la u → pz_fi la (pz_w g b) = pz_fi (pz_w g a) (pz_w g b) → wz_H D 1 2 h r ca g A s.heap H locs → lv_has ls 4 [(0, .ref h), (2, .int (nI b)), (3, .int u)] → W p l e ({ frames := 1, cells := 0, slots := 0, locals := 23 } : Room) s m args below meth c H locs 0 0 (wz_Qi below (fun v g' => v = (pz_o10 g (nI a) (nI b)).1 ∧ g' = (pz_o10 g (nI a) (nI b)).2) D 1 2 h r wz_e1 ca A args s) (F0 m 18 ls []) := by
        intro la
        induction la with
        | nil =>
          intro u H locs ls hW hs hH hl
          have e1 := pz_W_0 hW
          subst e1
          refine lv_iload_n hx hb dX1_meet_18 rfl (lv_at hl 2 rfl) ?_
          refine lv_if_lt (tgt := 41) hx hb dX1_meet_19 (by decide) (fun _ => ?_) (fun c19 => absurd (by decide) c19)
          refine lv_iload_n hx hb dX1_meet_41 rfl (lv_at hl 2 rfl) ?_
          exact wz_ri C hr hlocks hH (pz_pr ((pz_o10_n ha hb9).trans (by rw [← hs, pz_fi_0]))) dX1_meet_42
        | cons w la ih =>
          intro u H locs ls hW hs hH hl
          obtain ⟨hw, e1, hW2⟩ := pz_W_z hW
          subst e1
          refine lv_iload_n hx hb dX1_meet_18 rfl (lv_at hl 2 rfl) ?_
          refine lv_if_lt (tgt := 41) hx hb dX1_meet_19 (by decide) (fun c19 => ?_) (fun c19 => ?_)
          · exact absurd c19 (pz_nlt hw)
          · refine lv_aload_n hx hb dX1_meet_22 rfl (lv_at hl 0 rfl) ?_
            refine lv_iload_n hx hb dX1_meet_23 rfl (lv_at hl 2 rfl) ?_
            refine lv_iload_n hx hb dX1_meet_24 rfl (lv_at hl 1 rfl) ?_
            refine wz_ci C hml hl.1 hH (wm_onWay (g := g) hw hb9 hF) (cwV 2 hts (lw_V q213 q215 qs9 q12 q216) rfl rfl rfl (by decide +kernel) ⟨Nat.le_of_ble_eq_true rfl, Nat.le_of_ble_eq_true rfl⟩) rfl rfl (Nat.le_of_ble_eq_true rfl) dX1_meet_25 ⟨Nat.zero_le _, Nat.zero_le _⟩ (fun v9 G9 H locs hp hH => ?_)
            obtain ⟨eG9, hv⟩ := hp
            subst G9
            refine lv_if_ne (tgt := 41) hx hb dX1_meet_28 (by decide) (fun c28 => ?_) (fun c28 => ?_)
            · have hin : w ∈ pz_w g b := hv.elim (fun z => z.2) (fun z => absurd z.1 c28)
              refine lv_iload_n hx hb dX1_meet_41 rfl (lv_at hl 2 rfl) ?_
              exact wz_ri C hr hlocks hH (pz_pr ((pz_o10_n ha hb9).trans (by rw [← hs, pz_fi_cy hin]))) dX1_meet_42
            · have hin : w ∉ pz_w g b := hv.elim (fun z => absurd (z.1.symm.trans c28) (by decide)) (fun z => z.2)
              refine wz_fld C hH hl 0 rfl 1 (by decide) q159 dX1_meet_31 dX1_meet_32 ?_
              refine lv_iload_n hx hb dX1_meet_35 rfl (lv_at hl 2 rfl) ?_
              refine wz_ld C hH 1 (by decide) rfl rfl hw dX1_meet_36 ?_
              refine lv_istore_n (lv' := [(3, .int (g 1 w)), (0, .ref h), (2, .int (nI b))]) hx hb dX1_meet_37 rfl hl (by decide) rfl (fun ls hl => ?_)
              refine lv_goto (tgt := 18) hx hb dX1_meet_38 (by decide) ?_
              exact ih _ _ _ ls hW2 (by rw [← hs, pz_fi_cn hin]) hH (lv_sub hl [1, 2, 0] rfl)
      exact t18 (pz_w g a) (nI a) _ _ ls (hF a ha) rfl hH (lv_sub hl [1, 3, 0] rfl)
    · have hbadw := hpw.elim (fun z => absurd z.1 c11) (fun z => z.2)
      refine lv_iconst (v := (-1)) hx hb dX1_meet_14 (by decide) ?_
      exact wz_ri C hr hlocks hH (pz_pr (pz_o10_b ha hbadw)) dX1_meet_15

set_option maxHeartbeats 4000000 in
set_option maxRecDepth 100000 in
/-- sumPart -/
theorem wm_sumPart {l : Launch} {D : va_G} {h : Nat} {r : Nat → Nat} {ca : Nat → ClassId} {g : pz_S} {x : Int32} (hF : pz_Fo g) : wz_Mi l yX1_sumPart cX1_sumPart 4 .int ({ frames := 1, cells := 0, slots := 0, locals := 23 } : Room) D 1 2 h r wz_e1 ca g [.int x] (fun v g' => v = (pz_o11 g x).1 ∧ g' = (pz_o11 g x).2) := by
  refine wz_si (T := TX1) (by decide) (Nat.le_of_ble_eq_true rfl) rfl in_X1 ?_
  intro p e s m args below meth c A ls C hr hlocks hml hl hH
  have C : wz_C p s m args c cX1_sumPart D 1 2 RX1 TX1 wz_e1 ca A := C
  have hx := C.1
  have hb := C.2.1
  have hts := C.2.2.1
  have hl : lv_has ls 4 [(0, .ref h), (1, .int x)] := hl
  refine lv_iload_n hx hb dX1_sumPart_0 rfl (lv_at hl 1 rfl) ?_
  refine wz_cs C hml hl.1 hH (wm_bad (x := x)) (va_cwS 1 hts (lw_S q169 q170 q12 q171) rfl rfl rfl (by decide +kernel) ⟨Nat.le_of_ble_eq_true rfl, Nat.le_of_ble_eq_true rfl⟩) (Nat.le_of_ble_eq_true rfl) dX1_sumPart_1 ⟨Nat.zero_le _, Nat.zero_le _⟩ (fun v H locs hpv hH => ?_)
  refine lv_if_eq (tgt := 9) hx hb dX1_sumPart_4 (by decide) (fun c4 => ?_) (fun c4 => ?_)
  · obtain ⟨n, hn, exn⟩ := hpv.elim (fun z => z.2) (fun z => absurd (z.1.symm.trans c4) (by decide))
    subst exn
    refine lv_iconst (v := 0) hx hb dX1_sumPart_9 (by decide) ?_
    refine lv_istore_n (lv' := [(2, .int 0), (0, .ref h), (1, .int (nI n))]) hx hb dX1_sumPart_10 rfl hl (by decide) rfl (fun ls hl => ?_)
    refine lv_iconst (v := 0) hx hb dX1_sumPart_11 (by decide) ?_
    refine lv_istore_n (lv' := [(3, .int 0), (2, .int 0), (0, .ref h), (1, .int (nI n))]) hx hb dX1_sumPart_12 rfl hl (by decide) rfl (fun ls hl => ?_)
    have t13 : ∀ (z k : Nat) (H : Heap) (locs : List Loc) (ls : Array Slot), k + z = 24 → wz_H D 1 2 h r ca g A s.heap H locs → lv_has ls 4 [(0, .ref h), (1, .int (nI n)), (2, .int (pz_su (pz_dw g n) k)), (3, .int (nI k))] → W p l e ({ frames := 1, cells := 0, slots := 0, locals := 23 } : Room) s m args below meth c H locs 0 0 (wz_Qi below (fun v g' => v = (pz_o11 g (nI n)).1 ∧ g' = (pz_o11 g (nI n)).2) D 1 2 h r wz_e1 ca A args s) (F0 m 13 ls []) := by
      intro z
      induction z with
      | zero =>
        intro k H locs ls hk hH hl
        have hk : k = 24 := hk
        subst hk
        refine lv_iload_n hx hb dX1_sumPart_13 rfl (lv_at hl 3 rfl) ?_
        refine lv_bipush (v := 24) hx hb dX1_sumPart_14 (by decide) ?_
        refine lv_icmp_ge (tgt := 43) hx hb dX1_sumPart_16 (by decide) (fun c16 => ?_) (fun c16 => ?_)
        · refine lv_iload_n hx hb dX1_sumPart_43 rfl (lv_at hl 2 rfl) ?_
          exact wz_ri C hr hlocks hH (pz_pr ((pz_o11_n hn).trans (by rw [pz_dw_D]))) dX1_sumPart_44
        · exact absurd (by decide) c16
      | succ z ih =>
        intro k H locs ls hk hH hl
        have hk24 : k < 24 := by omega
        refine lv_iload_n hx hb dX1_sumPart_13 rfl (lv_at hl 3 rfl) ?_
        refine lv_bipush (v := 24) hx hb dX1_sumPart_14 (by decide) ?_
        refine lv_icmp_ge (tgt := 43) hx hb dX1_sumPart_16 (by decide) (fun c16 => ?_) (fun c16 => ?_)
        · exact absurd c16 (nI_ge (a := k) (b := 24) hk24 (by decide))
        · refine lv_aload_n hx hb dX1_sumPart_19 rfl (lv_at hl 0 rfl) ?_
          refine lv_iload_n hx hb dX1_sumPart_20 rfl (lv_at hl 1 rfl) ?_
          refine lv_iload_n hx hb dX1_sumPart_21 rfl (lv_at hl 3 rfl) ?_
          refine wz_ci C hml hl.1 hH (wm_onWay (g := g) hn hk24 hF) (cwV 2 hts (lw_V q213 q215 qs9 q12 q216) rfl rfl rfl (by decide +kernel) ⟨Nat.le_of_ble_eq_true rfl, Nat.le_of_ble_eq_true rfl⟩) rfl rfl (Nat.le_of_ble_eq_true rfl) dX1_sumPart_22 ⟨Nat.zero_le _, Nat.zero_le _⟩ (fun v9 G9 H locs hp hH => ?_)
          obtain ⟨eG9, hv⟩ := hp
          subst G9
          refine lv_if_eq (tgt := 37) hx hb dX1_sumPart_25 (by decide) (fun c25 => ?_) (fun c25 => ?_)
          · have hin : n ∉ pz_w g k := hv.elim (fun z => absurd (z.1.symm.trans c25) (by decide)) (fun z => z.2)
            refine lv_iinc (v := (nI (k + 1))) (lv' := [(3, .int (nI (k + 1))), (0, .ref h), (1, .int (nI n)), (2, .int (pz_su (pz_dw g n) k))]) hx hb dX1_sumPart_37 hl (k := 3) rfl (nI_1 k) (by decide) rfl (fun ls hl => ?_)
            refine lv_goto (tgt := 13) hx hb dX1_sumPart_40 (by decide) ?_
            rw [pz_dw_n hin] at hl
            exact ih (k + 1) _ _ ls (by omega) hH (lv_sub hl [1, 2, 3, 0] rfl)
          · have hin : n ∈ pz_w g k := hv.elim (fun z => z.2) (fun z => absurd z.1 c25)
            refine lv_iload_n hx hb dX1_sumPart_28 rfl (lv_at hl 2 rfl) ?_
            refine wz_fld C hH hl 0 rfl 0 (by decide) q158 dX1_sumPart_29 dX1_sumPart_30 ?_
            refine lv_iload_n hx hb dX1_sumPart_33 rfl (lv_at hl 3 rfl) ?_
            refine wz_ld C hH 0 (by decide) rfl rfl hk24 dX1_sumPart_34 ?_
            refine lv_iadd hx hb dX1_sumPart_35 ?_
            refine lv_istore_n (lv' := [(2, .int ((pz_su (pz_dw g n) k) + (g 0 k))), (0, .ref h), (1, .int (nI n)), (3, .int (nI k))]) hx hb dX1_sumPart_36 rfl hl (by decide) rfl (fun ls hl => ?_)
            refine lv_iinc (v := (nI (k + 1))) (lv' := [(3, .int (nI (k + 1))), (2, .int ((pz_su (pz_dw g n) k) + (g 0 k))), (0, .ref h), (1, .int (nI n))]) hx hb dX1_sumPart_37 hl (k := 3) rfl (nI_1 k) (by decide) rfl (fun ls hl => ?_)
            refine lv_goto (tgt := 13) hx hb dX1_sumPart_40 (by decide) ?_
            rw [pz_dw_y hin] at hl
            exact ih (k + 1) _ _ ls (by omega) hH (lv_sub hl [2, 3, 1, 0] rfl)
    exact t13 24 0 _ _ ls rfl hH (lv_sub (l' := [(0, .ref h), (1, .int (nI n)), (2, .int (pz_su (pz_dw g n) 0)), (3, .int (nI 0))]) hl [2, 3, 1, 0] rfl)
  · have hbadv := hpv.elim (fun z => absurd z.1 c4) (fun z => z.2)
    refine lv_iconst (v := 0) hx hb dX1_sumPart_7 (by decide) ?_
    exact wz_ri C hr hlocks hH (pz_pr (pz_on_b hbadv)) dX1_sumPart_8

set_option maxHeartbeats 4000000 in
set_option maxRecDepth 100000 in
/-- link -/
theorem wm_link {l : Launch} {D : va_G} {h : Nat} {r : Nat → Nat} {ca : Nat → ClassId} {g : pz_S} {x y : Int32} (hF : pz_Fo g) : wz_Mi l yX1_link cX1_link 3 .int ({ frames := 2, cells := 0, slots := 0, locals := 42 } : Room) D 1 2 h r wz_e1 ca g [.int x, .int y] (fun v g' => v = (pz_o0 g x y).1 ∧ g' = (pz_o0 g x y).2) := by
  refine wz_si (T := TX1) (by decide) (Nat.le_of_ble_eq_true rfl) rfl in_X1 ?_
  intro p e s m args below meth c A ls C hr hlocks hml hl hH
  have C : wz_C p s m args c cX1_link D 1 2 RX1 TX1 wz_e1 ca A := C
  have hx := C.1
  have hb := C.2.1
  have hts := C.2.2.1
  have hl : lv_has ls 3 [(0, .ref h), (1, .int x), (2, .int y)] := hl
  refine lv_iload_n hx hb dX1_link_0 rfl (lv_at hl 1 rfl) ?_
  refine wz_cs C hml hl.1 hH (wm_bad (x := x)) (va_cwS 1 hts (lw_S q169 q170 q12 q171) rfl rfl rfl (by decide +kernel) ⟨Nat.le_of_ble_eq_true rfl, Nat.le_of_ble_eq_true rfl⟩) (Nat.le_of_ble_eq_true rfl) dX1_link_1 ⟨Nat.zero_le _, Nat.zero_le _⟩ (fun v H locs hpv hH => ?_)
  refine lv_if_ne (tgt := 32) hx hb dX1_link_4 (by decide) (fun c4 => ?_) (fun c4 => ?_)
  · have hbadv := hpv.elim (fun z => absurd z.1 c4) (fun z => z.2)
    refine lv_iconst (v := (-1)) hx hb dX1_link_32 (by decide) ?_
    exact wz_ri C hr hlocks hH (pz_pr (pz_on_b hbadv)) dX1_link_33
  · obtain ⟨a, ha, exa⟩ := hpv.elim (fun z => z.2) (fun z => absurd (z.1.symm.trans c4) (by decide))
    subst exa
    refine lv_iload_n hx hb dX1_link_7 rfl (lv_at hl 2 rfl) ?_
    refine wz_cs C hml hl.1 hH (wm_bad (x := y)) (va_cwS 1 hts (lw_S q169 q170 q12 q171) rfl rfl rfl (by decide +kernel) ⟨Nat.le_of_ble_eq_true rfl, Nat.le_of_ble_eq_true rfl⟩) (Nat.le_of_ble_eq_true rfl) dX1_link_8 ⟨Nat.zero_le _, Nat.zero_le _⟩ (fun w H locs hpw hH => ?_)
    refine lv_if_ne (tgt := 32) hx hb dX1_link_11 (by decide) (fun c11 => ?_) (fun c11 => ?_)
    · have hbadw := hpw.elim (fun z => absurd z.1 c11) (fun z => z.2)
      refine lv_iconst (v := (-1)) hx hb dX1_link_32 (by decide) ?_
      exact wz_ri C hr hlocks hH (pz_pr (pz_o0_b ha hbadw)) dX1_link_33
    · obtain ⟨b, hb9, exb⟩ := hpw.elim (fun z => z.2) (fun z => absurd (z.1.symm.trans c11) (by decide))
      subst exb
      refine wz_fld C hH hl 0 rfl 1 (by decide) q159 dX1_link_14 dX1_link_15 ?_
      refine lv_iload_n hx hb dX1_link_18 rfl (lv_at hl 1 rfl) ?_
      refine wz_ld C hH 1 (by decide) rfl rfl ha dX1_link_19 ?_
      refine lv_if_ge (tgt := 32) hx hb dX1_link_20 (by decide) (fun c20 => ?_) (fun c20 => ?_)
      · have hno : ¬ (g 1 a = -1 ∧ pz_ro g b ≠ a) := fun z => absurd c20 (by rw [z.1]; decide)
        refine lv_iconst (v := (-1)) hx hb dX1_link_32 (by decide) ?_
        exact wz_ri C hr hlocks hH (pz_pr ((pz_o0_n ha hb9).trans (if_neg hno))) dX1_link_33
      · have e1 : g 1 a = -1 := pz_P_lt (pz_w_P hF ha) (Int32.not_le.mp c20)
        refine lv_aload_n hx hb dX1_link_23 rfl (lv_at hl 0 rfl) ?_
        refine lv_iload_n hx hb dX1_link_24 rfl (lv_at hl 2 rfl) ?_
        refine wz_ci C hml hl.1 hH (wm_root (g := g) (x := (nI b)) hF) (cwV 1 hts (lw_V q172 q173 q174 q12 q175) rfl rfl rfl (by decide +kernel) ⟨Nat.le_of_ble_eq_true rfl, Nat.le_of_ble_eq_true rfl⟩) rfl rfl (Nat.le_of_ble_eq_true rfl) dX1_link_25 ⟨Nat.zero_le _, Nat.zero_le _⟩ (fun v9 G9 H locs hp hH => ?_)
        rw [pz_o5_n hb9] at hp
        obtain ⟨ev, eG⟩ := hp
        have ev : v9 = nI (pz_ro g b) := ev
        have eG : G9 = g := eG
        subst ev
        subst G9
        refine lv_iload_n hx hb dX1_link_28 rfl (lv_at hl 1 rfl) ?_
        refine lv_icmp_ne (tgt := 34) hx hb dX1_link_29 (by decide) (fun c29 => ?_) (fun c29 => ?_)
        · have hne : pz_ro g b ≠ a := fun z => c29 (congrArg nI z)
          refine wz_fld C hH hl 0 rfl 1 (by decide) q159 dX1_link_34 dX1_link_35 ?_
          refine lv_iload_n hx hb dX1_link_38 rfl (lv_at hl 1 rfl) ?_
          refine lv_iload_n hx hb dX1_link_39 rfl (lv_at hl 2 rfl) ?_
          refine wz_st C hH 1 (by decide) rfl rfl ha dX1_link_40 (fun H locs hH => ?_)
          refine lv_iconst (v := 0) hx hb dX1_link_41 (by decide) ?_
          exact wz_ri C hr hlocks hH (pz_pr ((pz_o0_n ha hb9).trans (if_pos ⟨e1, hne⟩))) dX1_link_42
        · have hno : ¬ (g 1 a = -1 ∧ pz_ro g b ≠ a) := fun z => z.2 (pz_inj (pz_ro_lt hF hb9) ha c29)
          refine lv_iconst (v := (-1)) hx hb dX1_link_32 (by decide) ?_
          exact wz_ri C hr hlocks hH (pz_pr ((pz_o0_n ha hb9).trans (if_neg hno))) dX1_link_33
end
section
/-! WALK 8: the constructors (printed by wip/D-64312w/gen/init.py) -/
def pz_ini (k : Nat) : pz_S := fun a x => if x < k then (if a = 0 ∨ a = 1 ∨ a = 2 then -1 else if a = 4 then 1 else 0) else 0
theorem pz_ini_0 : pz_ini 0 = fun _ _ => 0 := by
  funext a x
  exact if_neg (Nat.not_lt_zero x)
theorem pz_ini_s (k : Nat) : pz_fu (pz_fu (pz_fu (pz_fu (pz_ini k) 0 k (-1)) 1 k (-1)) 2 k (-1)) 4 k 1 = pz_ini (k + 1) := by
  funext a x
  unfold pz_fu pz_ini
  by_cases hx : x = k
  · subst hx
    by_cases h4 : a = 4
    · simp [h4]
    · by_cases h2 : a = 2
      · simp [h2]
      · by_cases h1 : a = 1
        · simp [h1]
        · by_cases h0 : a = 0
          · simp [h0]
          · simp [h4, h2, h1, h0]
  · have e : (x < k + 1) = (x < k) := propext ⟨fun h => by omega, fun h => by omega⟩
    simp [hx, e]
def pz_inm (k : Nat) : pz_S := fun a x => if a = 1 ∧ x < k then -1 else 0
theorem pz_inm_0 : pz_inm 0 = fun _ _ => 0 := by
  funext a x
  exact if_neg (fun z => Nat.not_lt_zero x z.2)
theorem pz_inm_s (k : Nat) : pz_fu (pz_inm k) 1 k (-1) = pz_inm (k + 1) := by
  funext a x
  unfold pz_fu pz_inm
  by_cases hx : x = k
  · subst hx
    by_cases h1 : a = 1
    · simp [h1]
    · simp [h1]
  · have e : (x < k + 1) = (x < k) := propext ⟨fun h => by omega, fun h => by omega⟩
    simp [hx, e]
theorem pz_ini_J : pz_J (pz_ini 24) (pz_inm 24) := by
  refine pz_start (fun x hx => ?_) (fun k x hx h0 h1 h2 h4 => ?_) (fun x hx => ?_) (fun x hx => ?_)
  · unfold pz_ini
    simp [hx]
  · unfold pz_ini
    simp [hx, h0, h1, h2, h4]
  · unfold pz_inm
    simp
  · unfold pz_inm
    simp [hx]
section
variable {p : Program} {l : Launch} {e : Env} {R : Room} {s : State} {m : MethodId} {args : Array Value} {below : List Frame} {meth : Method} {c : Code} {H : Heap} {locs : List Loc} {cells slots : Nat} {Q : State → Prop}
variable {cc : ByteArray} {pc : Nat} {ls : Array Slot} {D : va_G} {A : Nat → Prop}
/-- aload_0, bipush 24, newarray, putfield -/
theorem wz_mk {ci N h index nL : Nat} {Cn : String} {T : u_T} {ty0 : Nat → FieldType} {et : FieldType} {atype : ArrayType} {fs : List Value} {ws : va_W} {tys : List (ClassId × FieldType)} {lv : List (Nat × Value)} (hx : p.tables.exec = Jvm.exec) (hb : c.code = cc) (hts : ∀ w ∈ lw_all, w.before args s = true) (hin : ∀ w ∈ u_ws Cn T N, w ∈ lw_all) (hty : ∀ k, k < N → parseFieldDescriptor (T k).2.2.1 = some (ty0 k)) (hnm : ∀ a, a < N → ∀ b, b < N → a ≠ b → (T a).2.1 ≠ (T b).2.1) (hown : s.vm.findClass Cn = some m.cls) (hc : vwCl[ci]? = some (Cn, T, N)) (hini : meth.name = "<init>") (hl : lv_has ls nL lv) (j : Nat) (hj : lv[j]? = some (0, .ref h))
    (hK : va_K D vwCl tys s) (hP : va_P D vwCl ((h, .inr (ci, fs)) :: ws) H) (hD : va_D A ((h, .inr (ci, fs)) :: ws)) (hS : va_S A s.heap H locs) (hA : ∀ q, s.heap.size ≤ q → A q) (k : Nat) (hk : k < N) (hq : Cond.fieldLink Cn index (T k).1 (T k).2.1 (T k).2.2.1 ∈ lw_all) (harr : Cond.arrayClass et ∈ lw_all) (hat : newarray.typeOf atype = et) (hdef : defaultValue et = .int 0) (hbts : 24 * componentBytes et ≤ 536870912) (hfin : (T k).2.2.2 = true) (hdecl : (T k).1 = Cn) (hn : ∀ q : Nat, narrow (ty0 k) (.ref q) = .ref q) (hfit : ∀ q : Nat, fits (ty0 k) (.ref q) = true) (hlen : k < fs.length) (hcells : cells + 1 ≤ R.cells) (hslots : slots + 24 ≤ R.slots)
    (d0 : decode cc pc = .ok (.aload_n 0, 1)) (d1 : decode cc (pc + 1) = .ok (.bipush 24, 2)) (d2 : decode cc (pc + 1 + 2) = .ok (.newarray atype, 2)) (d3 : decode cc (pc + 1 + 2 + 2) = .ok (.putfield index, 3))
    (kk : ∀ (q : Nat) (cA : ClassId) (H1 : Heap) (locs1 : List Loc), va_K D vwCl (tys ++ [(cA, et)]) s → va_P D vwCl ((h, .inr (ci, fs.set k (.ref q))) :: (ws ++ [(q, .inl (cA, 24, .inl (fun _ => 0)))])) H1 → va_D A ((h, .inr (ci, fs.set k (.ref q))) :: (ws ++ [(q, .inl (cA, 24, .inl (fun _ => 0)))])) → va_S A s.heap H1 locs1 → W p l e R s m args below meth c H1 locs1 (cells + 1) (slots + 24) Q (F0 m (pc + 1 + 2 + 2 + 3) ls [])) : W p l e R s m args below meth c H locs cells slots Q (F0 m pc ls []) := by
  subst hat
  refine lv_aload_n hx hb d0 rfl (lv_at hl j hj) ?_
  refine lv_bipush (v := 24) hx hb d1 (by decide) ?_
  refine va_newa (a0 := (24, .inl (fun _ => 0))) (N' := 24) hx hb (hts _ harr) rfl hK hP hD hS hA (fun cA => ?_) (by decide) (by decide) hbts hcells hslots d2 (fun q cA H1 hK1 hP1 hD1 hS1 => ?_)
  · rw [hdef]
    rfl
  · refine va_putF (ci := ci) (v := .ref q) (C := Cn) (T := T) (N := N) hx hb hts hin ty0 hty hnm hown hK1 hP1 hD1 hS1 0 (fs := fs) rfl hc k hk (hts _ hq) (fun _ h9 => h9) hfin hini hdecl (hty k hk) (hn q) (hfit q) hlen d3 (fun H2 locs2 hP2 hD2 hS2 => ?_)
    exact kk q cA H2 locs2 hK1 hP2 hD2 hS2
end
set_option maxHeartbeats 4000000 in
set_option maxRecDepth 100000 in
/-- constructor -/
theorem wz_init0 (l : Launch) (D : va_G) (h sz : Nat) : Met l yX0_init (ws_ yX0_init cX0_init 2 none) ({ frames := 1, cells := 13, slots := 312, locals := 12 } : Room) (va_Pc [.ref h] (fun U => U.heap.size = sz ∧ va_P D vwCl [(h, .inr (0, [.null, .null, .null, .null, .null, .null, .null, .null, .null, .null, .null, .null, .null]))] U.heap ∧ va_K D vwCl [] U ∧ va_D (fun _ => True) [(h, .inr (0, [.null, .null, .null, .null, .null, .null, .null, .null, .null, .null, .null, .null, .null]))])) (va_Qv (fun _ : ((Nat → Nat) × (Nat → ClassId)) => True) (fun u t => wz_B D 0 13 h u.1 wz_e0 u.2 (pz_ini 24) (va_A [(h, .inr (0, [.null, .null, .null, .null, .null, .null, .null, .null, .null, .null, .null, .null, .null]))] sz) t) (va_A [(h, .inr (0, [.null, .null, .null, .null, .null, .null, .null, .null, .null, .null, .null, .null, .null]))] sz)) 13 312 (va_A [(h, .inr (0, [.null, .null, .null, .null, .null, .null, .null, .null, .null, .null, .null, .null, .null]))] sz) := by
  refine Met.ofW (cc := cX0_init) (maxL := 2) (ret := none) (by decide) rfl ?_
  intro p e s m args below meth c s₁ B hml hv
  obtain ⟨rfl, hsz, hP, hK, hD0⟩ := hv
  have hx := B.exec
  have hb := B.bytes
  have hr := B.returns
  have hts := atoms_spec (ws := ws_ yX0_init cX0_init 2 none) B.pre
  have hts : ∀ w ∈ lw_all, w.before _ s = true := fun w h => hts w (List.mem_cons_of_mem _ h)
  have hown : s.vm.findClass RX0 = some m.cls := findClass_of_methodNamed B.named
  have hlocks := B.notSynchronized
  have hini : meth.name = "<init>" := (name_of_methodNamed B.named B.method).1
  subst hsz
  have hD := hD0.self (sz := s.heap.size)
  generalize hAe : va_A [(h, .inr (0, [.null, .null, .null, .null, .null, .null, .null, .null, .null, .null, .null, .null, .null]))] s.heap.size = A at hD ⊢
  have hA : ∀ q : Nat, s.heap.size ≤ q → A q := fun q h => by rw [← hAe]; exact Or.inr h
  have hS : va_S A s.heap s.heap [] := va_S.rf
  have hl := lv_entry ([.ref h]) (n := 2) (Nat.le_of_ble_eq_true rfl)
  rw [lg_entry_eq]
  generalize (lg_sl ([.ref h]) ++ List.replicate (2 - (lg_sl ([.ref h])).length) Slot.unset).toArray = ls at hl ⊢
  have hl : lv_has ls 2 [(0, .ref h)] := hl
  refine lv_aload_n hx hb dX0_init_0 rfl (lv_at hl 0 rfl) ?_
  refine W.objInit hx hb hown (hts _ q18) (hts _ q19) (hts _ q20) rfl (by rw [hml]; exact hl.1) rfl dX0_init_1 (Nat.le_of_ble_eq_true rfl) (Nat.le_of_ble_eq_true rfl) ?_
  refine W.eq (g2 := F0 m 4 ls []) rfl ?_
  refine wz_mk (ci := 0) (et := .int) (ty0 := tyX0) hx hb hts in_X0 tyX0_ok nmX0 hown rfl hini hl 0 rfl hK hP hD hS hA 0 (by decide) q21 q61 rfl rfl (by decide) rfl rfl (fun _ => rfl) (fun _ => rfl) (by simp) (Nat.le_of_ble_eq_true rfl) (Nat.le_of_ble_eq_true rfl) dX0_init_4 dX0_init_5 dX0_init_7 dX0_init_9 (fun q0 c0 H locs hK hP hD hS => ?_)
  refine wz_mk (ci := 0) (et := .int) (ty0 := tyX0) hx hb hts in_X0 tyX0_ok nmX0 hown rfl hini hl 0 rfl hK hP hD hS hA 1 (by decide) q22 q61 rfl rfl (by decide) rfl rfl (fun _ => rfl) (fun _ => rfl) (by simp) (Nat.le_of_ble_eq_true rfl) (Nat.le_of_ble_eq_true rfl) dX0_init_12 dX0_init_13 dX0_init_15 dX0_init_17 (fun q1 c1 H locs hK hP hD hS => ?_)
  refine wz_mk (ci := 0) (et := .int) (ty0 := tyX0) hx hb hts in_X0 tyX0_ok nmX0 hown rfl hini hl 0 rfl hK hP hD hS hA 2 (by decide) q23 q61 rfl rfl (by decide) rfl rfl (fun _ => rfl) (fun _ => rfl) (by simp) (Nat.le_of_ble_eq_true rfl) (Nat.le_of_ble_eq_true rfl) dX0_init_20 dX0_init_21 dX0_init_23 dX0_init_25 (fun q2 c2 H locs hK hP hD hS => ?_)
  refine wz_mk (ci := 0) (et := .int) (ty0 := tyX0) hx hb hts in_X0 tyX0_ok nmX0 hown rfl hini hl 0 rfl hK hP hD hS hA 3 (by decide) q24 q61 rfl rfl (by decide) rfl rfl (fun _ => rfl) (fun _ => rfl) (by simp) (Nat.le_of_ble_eq_true rfl) (Nat.le_of_ble_eq_true rfl) dX0_init_28 dX0_init_29 dX0_init_31 dX0_init_33 (fun q3 c3 H locs hK hP hD hS => ?_)
  refine wz_mk (ci := 0) (et := .int) (ty0 := tyX0) hx hb hts in_X0 tyX0_ok nmX0 hown rfl hini hl 0 rfl hK hP hD hS hA 4 (by decide) q25 q61 rfl rfl (by decide) rfl rfl (fun _ => rfl) (fun _ => rfl) (by simp) (Nat.le_of_ble_eq_true rfl) (Nat.le_of_ble_eq_true rfl) dX0_init_36 dX0_init_37 dX0_init_39 dX0_init_41 (fun q4 c4 H locs hK hP hD hS => ?_)
  refine wz_mk (ci := 0) (et := .int) (ty0 := tyX0) hx hb hts in_X0 tyX0_ok nmX0 hown rfl hini hl 0 rfl hK hP hD hS hA 5 (by decide) q26 q61 rfl rfl (by decide) rfl rfl (fun _ => rfl) (fun _ => rfl) (by simp) (Nat.le_of_ble_eq_true rfl) (Nat.le_of_ble_eq_true rfl) dX0_init_44 dX0_init_45 dX0_init_47 dX0_init_49 (fun q5 c5 H locs hK hP hD hS => ?_)
  refine wz_mk (ci := 0) (et := .int) (ty0 := tyX0) hx hb hts in_X0 tyX0_ok nmX0 hown rfl hini hl 0 rfl hK hP hD hS hA 6 (by decide) q27 q61 rfl rfl (by decide) rfl rfl (fun _ => rfl) (fun _ => rfl) (by simp) (Nat.le_of_ble_eq_true rfl) (Nat.le_of_ble_eq_true rfl) dX0_init_52 dX0_init_53 dX0_init_55 dX0_init_57 (fun q6 c6 H locs hK hP hD hS => ?_)
  refine wz_mk (ci := 0) (et := .int) (ty0 := tyX0) hx hb hts in_X0 tyX0_ok nmX0 hown rfl hini hl 0 rfl hK hP hD hS hA 7 (by decide) q28 q61 rfl rfl (by decide) rfl rfl (fun _ => rfl) (fun _ => rfl) (by simp) (Nat.le_of_ble_eq_true rfl) (Nat.le_of_ble_eq_true rfl) dX0_init_60 dX0_init_61 dX0_init_63 dX0_init_65 (fun q7 c7 H locs hK hP hD hS => ?_)
  refine wz_mk (ci := 0) (et := .int) (ty0 := tyX0) hx hb hts in_X0 tyX0_ok nmX0 hown rfl hini hl 0 rfl hK hP hD hS hA 8 (by decide) q29 q61 rfl rfl (by decide) rfl rfl (fun _ => rfl) (fun _ => rfl) (by simp) (Nat.le_of_ble_eq_true rfl) (Nat.le_of_ble_eq_true rfl) dX0_init_68 dX0_init_69 dX0_init_71 dX0_init_73 (fun q8 c8 H locs hK hP hD hS => ?_)
  refine wz_mk (ci := 0) (et := .boolean) (ty0 := tyX0) hx hb hts in_X0 tyX0_ok nmX0 hown rfl hini hl 0 rfl hK hP hD hS hA 9 (by decide) q30 q62 rfl rfl (by decide) rfl rfl (fun _ => rfl) (fun _ => rfl) (by simp) (Nat.le_of_ble_eq_true rfl) (Nat.le_of_ble_eq_true rfl) dX0_init_76 dX0_init_77 dX0_init_79 dX0_init_81 (fun q9 c9 H locs hK hP hD hS => ?_)
  refine wz_mk (ci := 0) (et := .boolean) (ty0 := tyX0) hx hb hts in_X0 tyX0_ok nmX0 hown rfl hini hl 0 rfl hK hP hD hS hA 10 (by decide) q31 q62 rfl rfl (by decide) rfl rfl (fun _ => rfl) (fun _ => rfl) (by simp) (Nat.le_of_ble_eq_true rfl) (Nat.le_of_ble_eq_true rfl) dX0_init_84 dX0_init_85 dX0_init_87 dX0_init_89 (fun q10 c10 H locs hK hP hD hS => ?_)
  refine wz_mk (ci := 0) (et := .int) (ty0 := tyX0) hx hb hts in_X0 tyX0_ok nmX0 hown rfl hini hl 0 rfl hK hP hD hS hA 11 (by decide) q32 q61 rfl rfl (by decide) rfl rfl (fun _ => rfl) (fun _ => rfl) (by simp) (Nat.le_of_ble_eq_true rfl) (Nat.le_of_ble_eq_true rfl) dX0_init_92 dX0_init_93 dX0_init_95 dX0_init_97 (fun q11 c11 H locs hK hP hD hS => ?_)
  refine wz_mk (ci := 0) (et := .int) (ty0 := tyX0) hx hb hts in_X0 tyX0_ok nmX0 hown rfl hini hl 0 rfl hK hP hD hS hA 12 (by decide) q33 q61 rfl rfl (by decide) rfl rfl (fun _ => rfl) (fun _ => rfl) (by simp) (Nat.le_of_ble_eq_true rfl) (Nat.le_of_ble_eq_true rfl) dX0_init_100 dX0_init_101 dX0_init_103 dX0_init_105 (fun q12 c12 H locs hK hP hD hS => ?_)
  obtain ⟨r, hr9⟩ : ∃ r : Nat → Nat, r = (fun k => [q0, q1, q2, q3, q4, q5, q6, q7, q8, q9, q10, q11, q12].getD k 0) := ⟨_, rfl⟩
  obtain ⟨ca, hc9⟩ : ∃ ca : Nat → ClassId, ca = (fun k => [c0, c1, c2, c3, c4, c5, c6, c7, c8, c9, c10, c11, c12].getD k c0) := ⟨_, rfl⟩
  have hH : wz_H D 0 13 h r ca (pz_ini 0) A s.heap H locs := by
    rw [hr9, hc9, pz_ini_0]
    exact ⟨hP, hD, hS⟩
  have hK : va_K D vwCl ((List.range 13).map (fun k => (ca k, wz_e0 k))) s := by
    rw [hc9]
    exact hK
  clear hP hD hS hr9 hc9
  have C : wz_C p s m _ c cX0_init D 0 13 RX0 TX0 wz_e0 ca A := ⟨hx, hb, hts, hown, hK, hA, rfl, in_X0⟩
  have tl : ∀ (z k : Nat) (H : Heap) (locs : List Loc) (ls : Array Slot), k + z = 24 → wz_H D 0 13 h r ca (pz_ini k) A s.heap H locs → lv_has ls 2 [(0, .ref h), (1, .int (nI k))] → W p l e ({ frames := 1, cells := 13, slots := 312, locals := 12 } : Room) s m ([.ref h] : List Value).toArray below meth c H locs 13 312 (MQ below (va_Qv (fun _ : ((Nat → Nat) × (Nat → ClassId)) => True) (fun u t => wz_B D 0 13 h u.1 wz_e0 u.2 (pz_ini 24) A t) A) ([.ref h] : List Value).toArray s 13 312 A) (F0 m 110 ls []) := by
    intro z
    induction z with
    | zero =>
      intro k H locs ls hk hH hl
      have hk : k = 24 := hk
      subst hk
      refine lv_iload_n hx hb dX0_init_110 rfl (lv_at hl 1 rfl) ?_
      refine lv_bipush (v := 24) hx hb dX0_init_111 (by decide) ?_
      refine lv_icmp_ge (tgt := 150) hx hb dX0_init_113 (by decide) (fun c113 => ?_) (fun c113 => ?_)
      · exact W.vret hx hb hr (fun t ht hW => ⟨⟨(r, ca), rfl, trivial, by rw [ht]; exact hH.1, va_K.moved hW.alike hK, hH.2.1⟩, hH.2.2.F ht⟩) hH.2.2.2.2 dX0_init_150 hlocks
      · exact absurd (by decide) c113
    | succ z ih =>
      intro k H locs ls hk hH hl
      have hk24 : k < 24 := by omega
      refine lv_iload_n hx hb dX0_init_110 rfl (lv_at hl 1 rfl) ?_
      refine lv_bipush (v := 24) hx hb dX0_init_111 (by decide) ?_
      refine lv_icmp_ge (tgt := 150) hx hb dX0_init_113 (by decide) (fun c113 => ?_) (fun c113 => ?_)
      · exact absurd c113 (nI_ge (a := k) (b := 24) hk24 (by decide))
      · refine wz_fld C hH hl 0 rfl 0 (by decide) q21 dX0_init_116 dX0_init_117 ?_
        refine lv_iload_n hx hb dX0_init_120 rfl (lv_at hl 1 rfl) ?_
        refine lv_iconst (v := (-1)) hx hb dX0_init_121 (by decide) ?_
        refine wz_st C hH 0 (by decide) rfl rfl hk24 dX0_init_122 (fun H locs hH => ?_)
        refine wz_fld C hH hl 0 rfl 1 (by decide) q22 dX0_init_123 dX0_init_124 ?_
        refine lv_iload_n hx hb dX0_init_127 rfl (lv_at hl 1 rfl) ?_
        refine lv_iconst (v := (-1)) hx hb dX0_init_128 (by decide) ?_
        refine wz_st C hH 1 (by decide) rfl rfl hk24 dX0_init_129 (fun H locs hH => ?_)
        refine wz_fld C hH hl 0 rfl 2 (by decide) q23 dX0_init_130 dX0_init_131 ?_
        refine lv_iload_n hx hb dX0_init_134 rfl (lv_at hl 1 rfl) ?_
        refine lv_iconst (v := (-1)) hx hb dX0_init_135 (by decide) ?_
        refine wz_st C hH 2 (by decide) rfl rfl hk24 dX0_init_136 (fun H locs hH => ?_)
        refine wz_fld C hH hl 0 rfl 4 (by decide) q25 dX0_init_137 dX0_init_138 ?_
        refine lv_iload_n hx hb dX0_init_141 rfl (lv_at hl 1 rfl) ?_
        refine lv_iconst (v := 1) hx hb dX0_init_142 (by decide) ?_
        refine wz_st C hH 4 (by decide) rfl rfl hk24 dX0_init_143 (fun H locs hH => ?_)
        refine lv_iinc (v := (nI (k + 1))) (lv' := [(1, .int (nI (k + 1))), (0, .ref h)]) hx hb dX0_init_144 hl (k := 1) rfl (nI_1 k) (by decide) rfl (fun ls hl => ?_)
        refine lv_goto (tgt := 110) hx hb dX0_init_147 (by decide) ?_
        rw [pz_ini_s] at hH
        exact ih (k + 1) _ _ ls (by omega) hH (lv_sub hl [1, 0] rfl)
  refine lv_iconst (v := 0) hx hb dX0_init_108 (by decide) ?_
  refine lv_istore_n (lv' := [(1, .int 0), (0, .ref h)]) hx hb dX0_init_109 rfl hl (by decide) rfl (fun ls hl => ?_)
  exact tl 24 0 _ _ ls rfl hH (lv_sub (l' := [(0, .ref h), (1, .int (nI 0))]) hl [1, 0] rfl)

set_option maxHeartbeats 4000000 in
set_option maxRecDepth 100000 in
/-- constructor -/
theorem wz_init1 (l : Launch) (D : va_G) (h sz : Nat) : Met l yX1_init (ws_ yX1_init cX1_init 2 none) ({ frames := 1, cells := 2, slots := 48, locals := 12 } : Room) (va_Pc [.ref h] (fun U => U.heap.size = sz ∧ va_P D vwCl [(h, .inr (1, [.null, .null]))] U.heap ∧ va_K D vwCl [] U ∧ va_D (fun _ => True) [(h, .inr (1, [.null, .null]))])) (va_Qv (fun _ : ((Nat → Nat) × (Nat → ClassId)) => True) (fun u t => wz_B D 1 2 h u.1 wz_e1 u.2 (pz_inm 24) (va_A [(h, .inr (1, [.null, .null]))] sz) t) (va_A [(h, .inr (1, [.null, .null]))] sz)) 2 48 (va_A [(h, .inr (1, [.null, .null]))] sz) := by
  refine Met.ofW (cc := cX1_init) (maxL := 2) (ret := none) (by decide) rfl ?_
  intro p e s m args below meth c s₁ B hml hv
  obtain ⟨rfl, hsz, hP, hK, hD0⟩ := hv
  have hx := B.exec
  have hb := B.bytes
  have hr := B.returns
  have hts := atoms_spec (ws := ws_ yX1_init cX1_init 2 none) B.pre
  have hts : ∀ w ∈ lw_all, w.before _ s = true := fun w h => hts w (List.mem_cons_of_mem _ h)
  have hown : s.vm.findClass RX1 = some m.cls := findClass_of_methodNamed B.named
  have hlocks := B.notSynchronized
  have hini : meth.name = "<init>" := (name_of_methodNamed B.named B.method).1
  subst hsz
  have hD := hD0.self (sz := s.heap.size)
  generalize hAe : va_A [(h, .inr (1, [.null, .null]))] s.heap.size = A at hD ⊢
  have hA : ∀ q : Nat, s.heap.size ≤ q → A q := fun q h => by rw [← hAe]; exact Or.inr h
  have hS : va_S A s.heap s.heap [] := va_S.rf
  have hl := lv_entry ([.ref h]) (n := 2) (Nat.le_of_ble_eq_true rfl)
  rw [lg_entry_eq]
  generalize (lg_sl ([.ref h]) ++ List.replicate (2 - (lg_sl ([.ref h])).length) Slot.unset).toArray = ls at hl ⊢
  have hl : lv_has ls 2 [(0, .ref h)] := hl
  refine lv_aload_n hx hb dX1_init_0 rfl (lv_at hl 0 rfl) ?_
  refine W.objInit hx hb hown (hts _ q157) (hts _ q19) (hts _ q20) rfl (by rw [hml]; exact hl.1) rfl dX1_init_1 (Nat.le_of_ble_eq_true rfl) (Nat.le_of_ble_eq_true rfl) ?_
  refine W.eq (g2 := F0 m 4 ls []) rfl ?_
  refine wz_mk (ci := 1) (et := .int) (ty0 := tyX1) hx hb hts in_X1 tyX1_ok nmX1 hown rfl hini hl 0 rfl hK hP hD hS hA 0 (by decide) q158 q61 rfl rfl (by decide) rfl rfl (fun _ => rfl) (fun _ => rfl) (by simp) (Nat.le_of_ble_eq_true rfl) (Nat.le_of_ble_eq_true rfl) dX1_init_4 dX1_init_5 dX1_init_7 dX1_init_9 (fun q0 c0 H locs hK hP hD hS => ?_)
  refine wz_mk (ci := 1) (et := .int) (ty0 := tyX1) hx hb hts in_X1 tyX1_ok nmX1 hown rfl hini hl 0 rfl hK hP hD hS hA 1 (by decide) q159 q61 rfl rfl (by decide) rfl rfl (fun _ => rfl) (fun _ => rfl) (by simp) (Nat.le_of_ble_eq_true rfl) (Nat.le_of_ble_eq_true rfl) dX1_init_12 dX1_init_13 dX1_init_15 dX1_init_17 (fun q1 c1 H locs hK hP hD hS => ?_)
  obtain ⟨r, hr9⟩ : ∃ r : Nat → Nat, r = (fun k => [q0, q1].getD k 0) := ⟨_, rfl⟩
  obtain ⟨ca, hc9⟩ : ∃ ca : Nat → ClassId, ca = (fun k => [c0, c1].getD k c0) := ⟨_, rfl⟩
  have hH : wz_H D 1 2 h r ca (pz_inm 0) A s.heap H locs := by
    rw [hr9, hc9, pz_inm_0]
    exact ⟨hP, hD, hS⟩
  have hK : va_K D vwCl ((List.range 2).map (fun k => (ca k, wz_e1 k))) s := by
    rw [hc9]
    exact hK
  clear hP hD hS hr9 hc9
  have C : wz_C p s m _ c cX1_init D 1 2 RX1 TX1 wz_e1 ca A := ⟨hx, hb, hts, hown, hK, hA, rfl, in_X1⟩
  have tl : ∀ (z k : Nat) (H : Heap) (locs : List Loc) (ls : Array Slot), k + z = 24 → wz_H D 1 2 h r ca (pz_inm k) A s.heap H locs → lv_has ls 2 [(0, .ref h), (1, .int (nI k))] → W p l e ({ frames := 1, cells := 2, slots := 48, locals := 12 } : Room) s m ([.ref h] : List Value).toArray below meth c H locs 2 48 (MQ below (va_Qv (fun _ : ((Nat → Nat) × (Nat → ClassId)) => True) (fun u t => wz_B D 1 2 h u.1 wz_e1 u.2 (pz_inm 24) A t) A) ([.ref h] : List Value).toArray s 2 48 A) (F0 m 22 ls []) := by
    intro z
    induction z with
    | zero =>
      intro k H locs ls hk hH hl
      have hk : k = 24 := hk
      subst hk
      refine lv_iload_n hx hb dX1_init_22 rfl (lv_at hl 1 rfl) ?_
      refine lv_bipush (v := 24) hx hb dX1_init_23 (by decide) ?_
      refine lv_icmp_ge (tgt := 41) hx hb dX1_init_25 (by decide) (fun c25 => ?_) (fun c25 => ?_)
      · exact W.vret hx hb hr (fun t ht hW => ⟨⟨(r, ca), rfl, trivial, by rw [ht]; exact hH.1, va_K.moved hW.alike hK, hH.2.1⟩, hH.2.2.F ht⟩) hH.2.2.2.2 dX1_init_41 hlocks
      · exact absurd (by decide) c25
    | succ z ih =>
      intro k H locs ls hk hH hl
      have hk24 : k < 24 := by omega
      refine lv_iload_n hx hb dX1_init_22 rfl (lv_at hl 1 rfl) ?_
      refine lv_bipush (v := 24) hx hb dX1_init_23 (by decide) ?_
      refine lv_icmp_ge (tgt := 41) hx hb dX1_init_25 (by decide) (fun c25 => ?_) (fun c25 => ?_)
      · exact absurd c25 (nI_ge (a := k) (b := 24) hk24 (by decide))
      · refine wz_fld C hH hl 0 rfl 1 (by decide) q159 dX1_init_28 dX1_init_29 ?_
        refine lv_iload_n hx hb dX1_init_32 rfl (lv_at hl 1 rfl) ?_
        refine lv_iconst (v := (-1)) hx hb dX1_init_33 (by decide) ?_
        refine wz_st C hH 1 (by decide) rfl rfl hk24 dX1_init_34 (fun H locs hH => ?_)
        refine lv_iinc (v := (nI (k + 1))) (lv' := [(1, .int (nI (k + 1))), (0, .ref h)]) hx hb dX1_init_35 hl (k := 1) rfl (nI_1 k) (by decide) rfl (fun ls hl => ?_)
        refine lv_goto (tgt := 22) hx hb dX1_init_38 (by decide) ?_
        rw [pz_inm_s] at hH
        exact ih (k + 1) _ _ ls (by omega) hH (lv_sub hl [1, 0] rfl)
  refine lv_iconst (v := 0) hx hb dX1_init_20 (by decide) ?_
  refine lv_istore_n (lv' := [(1, .int 0), (0, .ref h)]) hx hb dX1_init_21 rfl hl (by decide) rfl (fun ls hl => ?_)
  exact tl 24 0 _ _ ls rfl hH (lv_sub (l' := [(0, .ref h), (1, .int (nI 0))]) hl [1, 0] rfl)
end
section
/-! THE CLAIM OUT OF ONE WALK OF THE LAW'S BODY. Your part is whole_start (and what it stands on); all else here is the same for every law, but numbers. -/
def R_law : String := "LinkForestLaw"
def lw_P (b : Addr) (xs : List Int32) (args : Array Value) (s : State) : Prop := args = #[.ref b] ∧ s.IntsAt b xs ∧ xs.length ≤ 192 ∧ (Jvm.Cond.and given_1 narrow_1).before args s = true
def lw_Q (_ : Array Value) (s : State) (o : Outcome) (t : State) : Prop := o = .returned (some (.int 1)) ∧ Framed s o t [] 600000 7290000
def lw_Z (below : List Frame) (a : Array Value) (s : State) : State → Prop := fun t => ∃ o, t.status = .running ∧ Ended t below o ∧ lw_Q a s o t
/-- the law's own end, with 1 on the stack, nothing written that was there before, its room as the claim has it -/
theorem lw_ret {p : Program} {l : Launch} {e : Env} {s : State} {m : MethodId} {below : List Frame} {meth : Method} {c : Code} {b : Nat} (hx : p.tables.exec = Jvm.exec) (hb : c.code = code) (hr : meth.sig.returnType = ret) (hlocks : meth.locks = false) {pc : Nat} {H : Heap} {ls : Array Slot} (hdg : decode code pc = .ok (.ireturn, 1)) : W p l e room_1 s m #[Value.ref b] below meth c H [] 600000 7290000 (lw_Z below #[Value.ref b] s) (F0 m pc ls [.int 1]) := by
  intro T hT X
  obtain ⟨fs, hret, hrun, hended, hW, hframe⟩ := X.leave (v := some (.int 1)) (hlocks := hlocks) (fun h => by rw [hr] at h; cases h)
  have hmeth' : T.vm.method? m = some meth := X.method'
  refine ⟨T.setFrames fs, ?_, .returned (some (.int 1)), hrun, hended, rfl, ⟨_, rfl⟩, hW, hframe⟩
  jvm_step X.here [X.here.top, hx, hb, hdg, hmeth', hr, ret, narrow_b1]
  (try refine ⟨rfl, ?_⟩); (try refine ⟨rfl, ?_⟩)
  first | (intro acts; rw [hret _ acts rfl rfl rfl]) | rw [hret _ _ rfl rfl rfl]
  exact Steps.refl _
/-- what holds at the law's entry: the machine, the code, the tables' words (any of lw_tbl by 'hts w (by decide +kernel)'), the script of L ints xs at the cell b, what the Statement gives of the start (any of its parts by flat_of_before) -/
def lw_At (p : Program) (s : State) (m : MethodId) (meth : Method) (c : Code) (b L : Nat) (xs : Nat → Int32) : Prop :=
  p.tables.exec = Jvm.exec ∧ c.code = code ∧ meth.sig.returnType = ret ∧ c.maxLocals = 4 ∧ s.vm.findClass R_law = some m.cls ∧ (∀ w ∈ lw_tbl, w.before #[Value.ref b] s = true) ∧ va_X b L xs s s.heap ∧ b < s.heap.size ∧ meth.locks = false ∧ (Jvm.Cond.and given_1 narrow_1).before #[Value.ref b] s = true
end
section
/-! WALK 9: the law's world: both objects (printed by wip/D-64312w/gen/law.py) -/
section
variable {D : va_G} {cl : List vw_C} {w1 w2 : va_W} {H : Heap} {A : Nat → Prop}
theorem lz_il {k : Nat} {q : Nat × va_E} (hk : w1[k]? = some q) : (w1 ++ w2)[k]? = some q := by
  rw [List.getElem?_append_left (List.getElem?_eq_some_iff.mp hk).1]
  exact hk
theorem lz_ir {k : Nat} {q : Nat × va_E} (hk : w2[k]? = some q) : (w1 ++ w2)[w1.length + k]? = some q := by
  rw [List.getElem?_append_right (Nat.le_add_right _ _), Nat.add_sub_cancel_left]
  exact hk
theorem lz_Pl (h : va_P D cl (w1 ++ w2) H) : va_P D cl w1 H := fun k q hk => h k q (lz_il hk)
theorem lz_Pr (h : va_P D cl (w1 ++ w2) H) : va_P D cl w2 H := fun k q hk => h (w1.length + k) q (lz_ir hk)
theorem lz_Dl (h : va_D A (w1 ++ w2)) : va_D A w1 := ⟨fun i j p q hi hj e => h.1 i j p q (lz_il hi) (lz_il hj) e, fun k q hk => h.2 k q (lz_il hk)⟩
theorem lz_Dr (h : va_D A (w1 ++ w2)) : va_D A w2 := ⟨fun i j p q hi hj e => by
  have := h.1 (w1.length + i) (w1.length + j) p q (lz_ir hi) (lz_ir hj) e
  omega, fun k q hk => h.2 _ q (lz_ir hk)⟩
theorem lz_Dx (h : va_D A (w1 ++ w2)) : ∀ (i j : Nat) (p q : Nat × va_E), w1[i]? = some p → w2[j]? = some q → p.1 ≠ q.1 := fun i j p q hi hj e => by
  have h1 := h.1 i (w1.length + j) p q (lz_il hi) (lz_ir hj) e
  have h2 := (List.getElem?_eq_some_iff.mp hi).1
  omega
theorem lz_Pc (h : va_P D cl (w1 ++ w2) H) : va_P D cl (w2 ++ w1) H := (lz_Pr h).app (lz_Pl h)
theorem lz_Dc (h : va_D A (w1 ++ w2)) : va_D A (w2 ++ w1) := (lz_Dr h).app (lz_Dl h) (fun i j p q hi hj e => lz_Dx h j i q p hj hi e.symm)
/-- behind a call that had the part w1 -/
theorem lz_re {w1' : va_W} {H1 : Heap} (hP : va_P D cl (w1 ++ w2) H) (hD : va_D A (w1 ++ w2)) (hk1 : ∀ q : Nat, q < H.size → ¬ va_A w1 H.size q → H1[q]? = H[q]?) (hP1 : va_P D cl w1' H1) (hD1 : va_D (va_A w1 H.size) w1') (hA1 : ∀ q, va_A w1 H.size q → A q) : va_P D cl (w1' ++ w2) H1 ∧ va_D A (w1' ++ w2) := by
  have hP2 := lz_Pr hP
  have hx : ∀ (k : Nat) (q : Nat × va_E), w2[k]? = some q → ¬ va_A w1 H.size q.1 := fun k q hk hq => by
    rcases hq with ⟨k2, e2, hk2⟩ | hq
    · exact lz_Dx hD k2 k (q.1, e2) q hk2 hk rfl
    · have := (hP2 k q hk).lt
      omega
  refine ⟨hP1.app (hP2.kept (fun k q hk => hk1 q.1 (hP2 k q hk).lt (hx k q hk))), (hD1.weaken (fun k q _ hq => hA1 q.1 hq)).app (lz_Dr hD) (fun i j p q hi hj e => hx j q hj (by rw [← e]; exact hD1.2 i p hi))⟩
end
def lz_C (p : Program) (s : State) (m : MethodId) (c : Code) (b L : Nat) (xs : Nat → Int32) (D : va_G) (ca0 ca1 : Nat → ClassId) : Prop :=
  p.tables.exec = Jvm.exec ∧ c.code = code ∧ c.maxLocals = 4 ∧ s.vm.findClass R_law = some m.cls ∧ (∀ w ∈ lw_all, w.before #[Value.ref b] s = true) ∧ va_K D vwCl ((List.range 13).map (fun k => (ca0 k, wz_e0 k))) s ∧ va_K D vwCl ((List.range 2).map (fun k => (ca1 k, wz_e1 k))) s ∧ va_X b L xs s s.heap ∧ b < s.heap.size ∧ L ≤ 192
def lz_H (D : va_G) (h0 : Nat) (r0 : Nat → Nat) (ca0 : Nat → ClassId) (f : pz_S) (h1 : Nat) (r1 : Nat → Nat) (ca1 : Nat → ClassId) (g : pz_S) (s : State) (H : Heap) (locs : List Loc) : Prop :=
  va_P D vwCl (wz_w 0 13 h0 r0 ca0 f ++ wz_w 1 2 h1 r1 ca1 g) H ∧ va_D (fun q => s.heap.size ≤ q) (wz_w 0 13 h0 r0 ca0 f ++ wz_w 1 2 h1 r1 ca1 g) ∧ va_S (fun q => s.heap.size ≤ q) s.heap H locs
section
variable {p : Program} {l : Launch} {e : Env} {R : Room} {s : State} {m : MethodId} {below : List Frame} {meth : Method} {c : Code} {H : Heap} {locs : List Loc} {cells slots : Nat} {Q : State → Prop}
variable {pc : Nat} {ls : Array Slot} {rest : List Value} {D : va_G} {b L h0 h1 : Nat} {xs : Nat → Int32} {ca0 ca1 : Nat → ClassId} {r0 r1 : Nat → Nat} {f g : pz_S}
theorem lz_own {w : va_W} (hD : va_D (fun q => s.heap.size ≤ q) w) (hS : va_S (fun q => s.heap.size ≤ q) s.heap H locs) : ∀ q, va_A w H.size q → s.heap.size ≤ q := by
  intro q hq
  rcases hq with ⟨k, e, hk⟩ | hq
  · exact hD.2 k (q, e) hk
  · exact Nat.le_trans hS.1 hq
/-- script[i] -/
theorem lz_rd (C : lz_C p s m c b L xs D ca0 ca1) (hH : lz_H D h0 r0 ca0 f h1 r1 ca1 g s H locs) {i : Int32} {j : Nat} (hi : i = nI j) (hj : j < L) (hdg : decode code pc = .ok (.iaload, 1))
    (kk : W p l e R s m #[Value.ref b] below meth c H locs cells slots Q (F0 m (pc + 1) ls (.int (xs j) :: rest))) : W p l e R s m #[Value.ref b] below meth c H locs cells slots Q (F0 m pc ls (.int i :: .ref b :: rest)) := by
  subst hi
  obtain ⟨hx, hb, hml, hown, hts, hK0, hK1, hX, hbl, hL⟩ := C
  exact va_sld (A := fun q => s.heap.size ≤ q) hx hb hX hbl (Nat.not_le.mpr hbl) hH.2.2 (vp_in_nI hj (by omega)) hdg (by rw [nI_clamp (by omega)]; exact kk)
/-- a call of the component -/
theorem lz_c0 {y : MethodName} {b9 : ByteArray} {L9 n index : Nat} {rm : Room} {As : List Value} {post : Int32 → pz_S → Prop} {st0 : List Value} (C : lz_C p s m c b L xs D ca0 ca1) (hls : ls.size = 4) (hH : lz_H D h0 r0 ca0 f h1 r1 ca1 g s H locs) (hM : wz_Mi l y b9 L9 .int rm D 0 13 h0 r0 wz_e0 ca0 f As post)
    (cw : CallW R s #[Value.ref b] R_law RX0 index y b9 L9 (some .int) (ws_ y b9 L9 (some .int)) rm 0 0 n) (hn : As.length = n) (hst : st0 = As.reverse ++ .ref h0 :: rest) (hW : (rest.map fun v => v.category).sum ≤ 8) (hdg : decode code pc = .ok (.invokevirtual index, 3)) (hf : cells ≤ R.cells ∧ slots ≤ R.slots)
    (kk : ∀ (v : Int32) (f' : pz_S) (H1 : Heap) (locs1 : List Loc), post v f' → lz_H D h0 r0 ca0 f' h1 r1 ca1 g s H1 locs1 → W p l e R s m #[Value.ref b] below meth c H1 locs1 cells slots Q (F0 m (pc + 3) ls (.int v :: rest))) : W p l e R s m #[Value.ref b] below meth c H locs cells slots Q (F0 m pc ls st0) := by
  subst hst
  obtain ⟨hx, hb, hml, hown, hts, hK0, hK1, hX, hbl, hL⟩ := C
  obtain ⟨hP, hD, hS⟩ := hH
  have hPl := lz_Pl hP
  have hDl := lz_Dl hD
  have hA1 := lz_own hDl hS
  refine va_calli (va_runV (As := As) (rest := rest) ⟨hx, hb, hml, hown, hts⟩ (hM H.size) cw ⟨wz_blind, va_recv (ci := 0) (q0 := 0) (q := (RX0, TX0, 13)) hK0 hPl rfl wz_w0, fun U hU hW => ⟨rfl, by rw [hU], by rw [hU]; exact hPl, va_K.moved hW.alike hK0, hDl.weaken (fun _ _ _ _ => trivial)⟩⟩ rfl hn hls rfl (lv_room hW) hdg hf) hS (fun q _ hq => hA1 q hq) hA1 (fun v u t H1 locs1 ht hvm hw1 hB hz1 hk1 hS1 => ?_)
  obtain ⟨hP1, -, hD1⟩ := hB
  rw [ht] at hP1
  obtain ⟨hP2, hD2⟩ := lz_re hP hD hk1 hP1 hD1 hA1
  exact kk v u H1 locs1 hw1 ⟨hP2, hD2, hS1⟩
/-- a call of the model -/
theorem lz_c1 {y : MethodName} {b9 : ByteArray} {L9 n index : Nat} {rm : Room} {As : List Value} {post : Int32 → pz_S → Prop} {st0 : List Value} (C : lz_C p s m c b L xs D ca0 ca1) (hls : ls.size = 4) (hH : lz_H D h0 r0 ca0 f h1 r1 ca1 g s H locs) (hM : wz_Mi l y b9 L9 .int rm D 1 2 h1 r1 wz_e1 ca1 g As post)
    (cw : CallW R s #[Value.ref b] R_law RX1 index y b9 L9 (some .int) (ws_ y b9 L9 (some .int)) rm 0 0 n) (hn : As.length = n) (hst : st0 = As.reverse ++ .ref h1 :: rest) (hW : (rest.map fun v => v.category).sum ≤ 8) (hdg : decode code pc = .ok (.invokevirtual index, 3)) (hf : cells ≤ R.cells ∧ slots ≤ R.slots)
    (kk : ∀ (v : Int32) (g' : pz_S) (H1 : Heap) (locs1 : List Loc), post v g' → lz_H D h0 r0 ca0 f h1 r1 ca1 g' s H1 locs1 → W p l e R s m #[Value.ref b] below meth c H1 locs1 cells slots Q (F0 m (pc + 3) ls (.int v :: rest))) : W p l e R s m #[Value.ref b] below meth c H locs cells slots Q (F0 m pc ls st0) := by
  subst hst
  obtain ⟨hx, hb, hml, hown, hts, hK0, hK1, hX, hbl, hL⟩ := C
  obtain ⟨hP, hD, hS⟩ := hH
  have hPl := lz_Pr hP
  have hDl := lz_Dr hD
  have hA1 := lz_own hDl hS
  refine va_calli (va_runV (As := As) (rest := rest) ⟨hx, hb, hml, hown, hts⟩ (hM H.size) cw ⟨wz_blind, va_recv (ci := 1) (q0 := 0) (q := (RX1, TX1, 2)) hK1 hPl rfl wz_w0, fun U hU hW => ⟨rfl, by rw [hU], by rw [hU]; exact hPl, va_K.moved hW.alike hK1, hDl.weaken (fun _ _ _ _ => trivial)⟩⟩ rfl hn hls rfl (lv_room hW) hdg hf) hS (fun q _ hq => hA1 q hq) hA1 (fun v u t H1 locs1 ht hvm hw1 hB hz1 hk1 hS1 => ?_)
  obtain ⟨hP1, -, hD1⟩ := hB
  rw [ht] at hP1
  obtain ⟨hP2, hD2⟩ := lz_re (lz_Pc hP) (lz_Dc hD) hk1 hP1 hD1 hA1
  exact kk v u H1 locs1 hw1 ⟨lz_Pc hP2, lz_Dc hD2, hS1⟩
end
theorem lz_2 (i : Nat) : nI i + 2 = nI (i + 2) := nI_add i 2
theorem lz_3 (i : Nat) : nI i + 3 = nI (i + 3) := nI_add i 3
theorem lz_J_Fo {f g : pz_S} (h : pz_J f g) : pz_Fo g := h.choose_spec.2.2
/-- i <= length - 3 -/
theorem lz_more {L i : Nat} (hL : L ≤ 192) (hi : i ≤ 200) (h : ¬ Int32.ofNat L - 3 < nI i) : i + 3 ≤ L := by
  refine Classical.byContradiction fun hn => h ?_
  by_cases h3 : 3 ≤ L
  · obtain ⟨k, rfl⟩ : ∃ k, L = k + 3 := ⟨L - 3, by omega⟩
    have e : Int32.ofNat (k + 3) - 3 = nI k := by
      have := lz_3 k
      have e2 : Int32.ofNat (k + 3) = nI k + 3 := this.symm
      rw [e2]
      grind
    rw [e]
    exact nI_lt (by omega) (by omega)
  · have e : Int32.ofNat L - 3 < 0 := by
      rcases (show L = 0 ∨ L = 1 ∨ L = 2 by omega) with rfl | rfl | rfl <;> decide
    exact Int32.lt_of_lt_of_le e (nI_pos' (by omega))
end
section
/-! WALK 10: the law's twelve cases (printed by wip/D-64312w/gen/law.py) -/
set_option maxHeartbeats 4000000 in
set_option maxRecDepth 100000 in
/-- case 0: link -/
theorem lz_case0 {p : Program} {l : Launch} {e : Env} {s : State} {m : MethodId} {below : List Frame} {meth : Method} {c : Code} {H : Heap} {locs : List Loc} {Q : State → Prop} {ls : Array Slot} {D : va_G} {b L h0 h1 i : Nat} {xs : Nat → Int32} {ca0 ca1 : Nat → ClassId} {r0 r1 : Nat → Nat} {f g : pz_S} (C : lz_C p s m c b L xs D ca0 ca1) (hH : lz_H D h0 r0 ca0 f h1 r1 ca1 g s H locs) (hJ : pz_J f g) (hi : i + 3 ≤ L) (hl : lv_has ls 4 [(0, .ref b), (1, .ref h0), (2, .ref h1), (3, .int (nI i))])
    (kk : ∀ (f' g' : pz_S) (H : Heap) (locs : List Loc), pz_J f' g' → lz_H D h0 r0 ca0 f' h1 r1 ca1 g' s H locs → W p l e room_1 s m #[Value.ref b] below meth c H locs 17 375 Q (F0 m 412 ls [])) : W p l e room_1 s m #[Value.ref b] below meth c H locs 17 375 Q (F0 m 96 ls []) := by
  have hx := C.1
  have hb := C.2.1
  have hts := C.2.2.2.2.1
  have hF := lz_J_Fo hJ
  refine lv_aload_n hx hb dL_law_96 rfl (lv_at hl 1 rfl) ?_
  refine lv_aload_n hx hb dL_law_97 rfl (lv_at hl 0 rfl) ?_
  refine lv_iload_n hx hb dL_law_98 rfl (lv_at hl 3 rfl) ?_
  refine lv_iconst (v := 1) hx hb dL_law_99 (by decide) ?_
  refine lv_iadd hx hb dL_law_100 ?_
  refine lz_rd C hH (nI_1 i) (by omega) dL_law_101 ?_
  refine lv_aload_n hx hb dL_law_102 rfl (lv_at hl 0 rfl) ?_
  refine lv_iload_n hx hb dL_law_103 rfl (lv_at hl 3 rfl) ?_
  refine lv_iconst (v := 2) hx hb dL_law_104 (by decide) ?_
  refine lv_iadd hx hb dL_law_105 ?_
  refine lz_rd C hH (lz_2 i) (by omega) dL_law_106 ?_
  refine lz_c0 C hl.1 hH (wz_link (x := xs (i + 1)) (y := xs (i + 2)) hJ) (cwV 2 hts (lw_V q63 q64 q65 q11 q66) rfl rfl rfl (by decide +kernel) ⟨Nat.le_of_ble_eq_true rfl, Nat.le_of_ble_eq_true rfl⟩) rfl rfl (Nat.le_of_ble_eq_true rfl) dL_law_107 ⟨Nat.le_of_ble_eq_true rfl, Nat.le_of_ble_eq_true rfl⟩ (fun v F H locs hp hH => ?_)
  refine lv_aload_n hx hb dL_law_110 rfl (lv_at hl 2 rfl) ?_
  refine lv_aload_n hx hb dL_law_111 rfl (lv_at hl 0 rfl) ?_
  refine lv_iload_n hx hb dL_law_112 rfl (lv_at hl 3 rfl) ?_
  refine lv_iconst (v := 1) hx hb dL_law_113 (by decide) ?_
  refine lv_iadd hx hb dL_law_114 ?_
  refine lz_rd C hH (nI_1 i) (by omega) dL_law_115 ?_
  refine lv_aload_n hx hb dL_law_116 rfl (lv_at hl 0 rfl) ?_
  refine lv_iload_n hx hb dL_law_117 rfl (lv_at hl 3 rfl) ?_
  refine lv_iconst (v := 2) hx hb dL_law_118 (by decide) ?_
  refine lv_iadd hx hb dL_law_119 ?_
  refine lz_rd C hH (lz_2 i) (by omega) dL_law_120 ?_
  refine lz_c1 C hl.1 hH (wm_link (g := g) (x := xs (i + 1)) (y := xs (i + 2)) hF) (cwV 2 hts (lw_V q165 q166 q167 q12 q168) rfl rfl rfl (by decide +kernel) ⟨Nat.le_of_ble_eq_true rfl, Nat.le_of_ble_eq_true rfl⟩) rfl rfl (Nat.le_of_ble_eq_true rfl) dL_law_121 ⟨Nat.le_of_ble_eq_true rfl, Nat.le_of_ble_eq_true rfl⟩ (fun w G H locs hq hH => ?_)
  refine lv_icmp_eq (tgt := 412) hx hb dL_law_124 (by decide) (fun cq => ?_) (fun cq => ?_)
  · exact kk F G _ _ (by rw [hq.2]; exact hp.2) hH
  · exact absurd (hp.1.trans hq.1.symm) cq

set_option maxHeartbeats 4000000 in
set_option maxRecDepth 100000 in
/-- case 1: cut -/
theorem lz_case1 {p : Program} {l : Launch} {e : Env} {s : State} {m : MethodId} {below : List Frame} {meth : Method} {c : Code} {H : Heap} {locs : List Loc} {Q : State → Prop} {ls : Array Slot} {D : va_G} {b L h0 h1 i : Nat} {xs : Nat → Int32} {ca0 ca1 : Nat → ClassId} {r0 r1 : Nat → Nat} {f g : pz_S} (C : lz_C p s m c b L xs D ca0 ca1) (hH : lz_H D h0 r0 ca0 f h1 r1 ca1 g s H locs) (hJ : pz_J f g) (hi : i + 3 ≤ L) (hl : lv_has ls 4 [(0, .ref b), (1, .ref h0), (2, .ref h1), (3, .int (nI i))])
    (kk : ∀ (f' g' : pz_S) (H : Heap) (locs : List Loc), pz_J f' g' → lz_H D h0 r0 ca0 f' h1 r1 ca1 g' s H locs → W p l e room_1 s m #[Value.ref b] below meth c H locs 17 375 Q (F0 m 412 ls [])) : W p l e room_1 s m #[Value.ref b] below meth c H locs 17 375 Q (F0 m 129 ls []) := by
  have hx := C.1
  have hb := C.2.1
  have hts := C.2.2.2.2.1
  have hF := lz_J_Fo hJ
  refine lv_aload_n hx hb dL_law_129 rfl (lv_at hl 1 rfl) ?_
  refine lv_aload_n hx hb dL_law_130 rfl (lv_at hl 0 rfl) ?_
  refine lv_iload_n hx hb dL_law_131 rfl (lv_at hl 3 rfl) ?_
  refine lv_iconst (v := 1) hx hb dL_law_132 (by decide) ?_
  refine lv_iadd hx hb dL_law_133 ?_
  refine lz_rd C hH (nI_1 i) (by omega) dL_law_134 ?_
  refine lz_c0 C hl.1 hH (wz_cut (x := xs (i + 1)) hJ) (cwV 1 hts (lw_V q110 q111 q112 q11 q113) rfl rfl rfl (by decide +kernel) ⟨Nat.le_of_ble_eq_true rfl, Nat.le_of_ble_eq_true rfl⟩) rfl rfl (Nat.le_of_ble_eq_true rfl) dL_law_135 ⟨Nat.le_of_ble_eq_true rfl, Nat.le_of_ble_eq_true rfl⟩ (fun v F H locs hp hH => ?_)
  refine lv_aload_n hx hb dL_law_138 rfl (lv_at hl 2 rfl) ?_
  refine lv_aload_n hx hb dL_law_139 rfl (lv_at hl 0 rfl) ?_
  refine lv_iload_n hx hb dL_law_140 rfl (lv_at hl 3 rfl) ?_
  refine lv_iconst (v := 1) hx hb dL_law_141 (by decide) ?_
  refine lv_iadd hx hb dL_law_142 ?_
  refine lz_rd C hH (nI_1 i) (by omega) dL_law_143 ?_
  refine lz_c1 C hl.1 hH (wm_cut (g := g) (x := xs (i + 1))) (cwV 1 hts (lw_V q176 q177 q178 q12 q179) rfl rfl rfl (by decide +kernel) ⟨Nat.le_of_ble_eq_true rfl, Nat.le_of_ble_eq_true rfl⟩) rfl rfl (Nat.le_of_ble_eq_true rfl) dL_law_144 ⟨Nat.le_of_ble_eq_true rfl, Nat.le_of_ble_eq_true rfl⟩ (fun w G H locs hq hH => ?_)
  refine lv_icmp_eq (tgt := 412) hx hb dL_law_147 (by decide) (fun cq => ?_) (fun cq => ?_)
  · exact kk F G _ _ (by rw [hq.2]; exact hp.2) hH
  · exact absurd (hp.1.trans hq.1.symm) cq

set_option maxHeartbeats 4000000 in
set_option maxRecDepth 100000 in
/-- case 2: turn -/
theorem lz_case2 {p : Program} {l : Launch} {e : Env} {s : State} {m : MethodId} {below : List Frame} {meth : Method} {c : Code} {H : Heap} {locs : List Loc} {Q : State → Prop} {ls : Array Slot} {D : va_G} {b L h0 h1 i : Nat} {xs : Nat → Int32} {ca0 ca1 : Nat → ClassId} {r0 r1 : Nat → Nat} {f g : pz_S} (C : lz_C p s m c b L xs D ca0 ca1) (hH : lz_H D h0 r0 ca0 f h1 r1 ca1 g s H locs) (hJ : pz_J f g) (hi : i + 3 ≤ L) (hl : lv_has ls 4 [(0, .ref b), (1, .ref h0), (2, .ref h1), (3, .int (nI i))])
    (kk : ∀ (f' g' : pz_S) (H : Heap) (locs : List Loc), pz_J f' g' → lz_H D h0 r0 ca0 f' h1 r1 ca1 g' s H locs → W p l e room_1 s m #[Value.ref b] below meth c H locs 17 375 Q (F0 m 412 ls [])) : W p l e room_1 s m #[Value.ref b] below meth c H locs 17 375 Q (F0 m 152 ls []) := by
  have hx := C.1
  have hb := C.2.1
  have hts := C.2.2.2.2.1
  have hF := lz_J_Fo hJ
  refine lv_aload_n hx hb dL_law_152 rfl (lv_at hl 1 rfl) ?_
  refine lv_aload_n hx hb dL_law_153 rfl (lv_at hl 0 rfl) ?_
  refine lv_iload_n hx hb dL_law_154 rfl (lv_at hl 3 rfl) ?_
  refine lv_iconst (v := 1) hx hb dL_law_155 (by decide) ?_
  refine lv_iadd hx hb dL_law_156 ?_
  refine lz_rd C hH (nI_1 i) (by omega) dL_law_157 ?_
  refine lz_c0 C hl.1 hH (wz_turn (x := xs (i + 1)) hJ) (cwV 1 hts (lw_V q118 q119 q120 q11 q121) rfl rfl rfl (by decide +kernel) ⟨Nat.le_of_ble_eq_true rfl, Nat.le_of_ble_eq_true rfl⟩) rfl rfl (Nat.le_of_ble_eq_true rfl) dL_law_158 ⟨Nat.le_of_ble_eq_true rfl, Nat.le_of_ble_eq_true rfl⟩ (fun v F H locs hp hH => ?_)
  refine lv_aload_n hx hb dL_law_161 rfl (lv_at hl 2 rfl) ?_
  refine lv_aload_n hx hb dL_law_162 rfl (lv_at hl 0 rfl) ?_
  refine lv_iload_n hx hb dL_law_163 rfl (lv_at hl 3 rfl) ?_
  refine lv_iconst (v := 1) hx hb dL_law_164 (by decide) ?_
  refine lv_iadd hx hb dL_law_165 ?_
  refine lz_rd C hH (nI_1 i) (by omega) dL_law_166 ?_
  refine lz_c1 C hl.1 hH (wm_turn (g := g) (x := xs (i + 1)) hF) (cwV 1 hts (lw_V q180 q181 q182 q12 q183) rfl rfl rfl (by decide +kernel) ⟨Nat.le_of_ble_eq_true rfl, Nat.le_of_ble_eq_true rfl⟩) rfl rfl (Nat.le_of_ble_eq_true rfl) dL_law_167 ⟨Nat.le_of_ble_eq_true rfl, Nat.le_of_ble_eq_true rfl⟩ (fun w G H locs hq hH => ?_)
  refine lv_icmp_eq (tgt := 412) hx hb dL_law_170 (by decide) (fun cq => ?_) (fun cq => ?_)
  · exact kk F G _ _ (by rw [hq.2]; exact hp.2) hH
  · exact absurd (hp.1.trans hq.1.symm) cq

set_option maxHeartbeats 4000000 in
set_option maxRecDepth 100000 in
/-- case 3: set -/
theorem lz_case3 {p : Program} {l : Launch} {e : Env} {s : State} {m : MethodId} {below : List Frame} {meth : Method} {c : Code} {H : Heap} {locs : List Loc} {Q : State → Prop} {ls : Array Slot} {D : va_G} {b L h0 h1 i : Nat} {xs : Nat → Int32} {ca0 ca1 : Nat → ClassId} {r0 r1 : Nat → Nat} {f g : pz_S} (C : lz_C p s m c b L xs D ca0 ca1) (hH : lz_H D h0 r0 ca0 f h1 r1 ca1 g s H locs) (hJ : pz_J f g) (hi : i + 3 ≤ L) (hl : lv_has ls 4 [(0, .ref b), (1, .ref h0), (2, .ref h1), (3, .int (nI i))])
    (kk : ∀ (f' g' : pz_S) (H : Heap) (locs : List Loc), pz_J f' g' → lz_H D h0 r0 ca0 f' h1 r1 ca1 g' s H locs → W p l e room_1 s m #[Value.ref b] below meth c H locs 17 375 Q (F0 m 412 ls [])) : W p l e room_1 s m #[Value.ref b] below meth c H locs 17 375 Q (F0 m 175 ls []) := by
  have hx := C.1
  have hb := C.2.1
  have hts := C.2.2.2.2.1
  have hF := lz_J_Fo hJ
  refine lv_aload_n hx hb dL_law_175 rfl (lv_at hl 1 rfl) ?_
  refine lv_aload_n hx hb dL_law_176 rfl (lv_at hl 0 rfl) ?_
  refine lv_iload_n hx hb dL_law_177 rfl (lv_at hl 3 rfl) ?_
  refine lv_iconst (v := 1) hx hb dL_law_178 (by decide) ?_
  refine lv_iadd hx hb dL_law_179 ?_
  refine lz_rd C hH (nI_1 i) (by omega) dL_law_180 ?_
  refine lv_aload_n hx hb dL_law_181 rfl (lv_at hl 0 rfl) ?_
  refine lv_iload_n hx hb dL_law_182 rfl (lv_at hl 3 rfl) ?_
  refine lv_iconst (v := 2) hx hb dL_law_183 (by decide) ?_
  refine lv_iadd hx hb dL_law_184 ?_
  refine lz_rd C hH (lz_2 i) (by omega) dL_law_185 ?_
  refine lz_c0 C hl.1 hH (wz_set (x := xs (i + 1)) (y := xs (i + 2)) hJ) (cwV 2 hts (lw_V q122 q123 q124 q11 q125) rfl rfl rfl (by decide +kernel) ⟨Nat.le_of_ble_eq_true rfl, Nat.le_of_ble_eq_true rfl⟩) rfl rfl (Nat.le_of_ble_eq_true rfl) dL_law_186 ⟨Nat.le_of_ble_eq_true rfl, Nat.le_of_ble_eq_true rfl⟩ (fun v F H locs hp hH => ?_)
  refine lv_aload_n hx hb dL_law_189 rfl (lv_at hl 2 rfl) ?_
  refine lv_aload_n hx hb dL_law_190 rfl (lv_at hl 0 rfl) ?_
  refine lv_iload_n hx hb dL_law_191 rfl (lv_at hl 3 rfl) ?_
  refine lv_iconst (v := 1) hx hb dL_law_192 (by decide) ?_
  refine lv_iadd hx hb dL_law_193 ?_
  refine lz_rd C hH (nI_1 i) (by omega) dL_law_194 ?_
  refine lv_aload_n hx hb dL_law_195 rfl (lv_at hl 0 rfl) ?_
  refine lv_iload_n hx hb dL_law_196 rfl (lv_at hl 3 rfl) ?_
  refine lv_iconst (v := 2) hx hb dL_law_197 (by decide) ?_
  refine lv_iadd hx hb dL_law_198 ?_
  refine lz_rd C hH (lz_2 i) (by omega) dL_law_199 ?_
  refine lz_c1 C hl.1 hH (wm_set (g := g) (x := xs (i + 1)) (y := xs (i + 2))) (cwV 2 hts (lw_V q184 q185 q186 q12 q187) rfl rfl rfl (by decide +kernel) ⟨Nat.le_of_ble_eq_true rfl, Nat.le_of_ble_eq_true rfl⟩) rfl rfl (Nat.le_of_ble_eq_true rfl) dL_law_200 ⟨Nat.le_of_ble_eq_true rfl, Nat.le_of_ble_eq_true rfl⟩ (fun w G H locs hq hH => ?_)
  refine lv_icmp_eq (tgt := 412) hx hb dL_law_203 (by decide) (fun cq => ?_) (fun cq => ?_)
  · exact kk F G _ _ (by rw [hq.2]; exact hp.2) hH
  · exact absurd (hp.1.trans hq.1.symm) cq

set_option maxHeartbeats 4000000 in
set_option maxRecDepth 100000 in
/-- case 4: paint -/
theorem lz_case4 {p : Program} {l : Launch} {e : Env} {s : State} {m : MethodId} {below : List Frame} {meth : Method} {c : Code} {H : Heap} {locs : List Loc} {Q : State → Prop} {ls : Array Slot} {D : va_G} {b L h0 h1 i : Nat} {xs : Nat → Int32} {ca0 ca1 : Nat → ClassId} {r0 r1 : Nat → Nat} {f g : pz_S} (C : lz_C p s m c b L xs D ca0 ca1) (hH : lz_H D h0 r0 ca0 f h1 r1 ca1 g s H locs) (hJ : pz_J f g) (hi : i + 3 ≤ L) (hl : lv_has ls 4 [(0, .ref b), (1, .ref h0), (2, .ref h1), (3, .int (nI i))])
    (kk : ∀ (f' g' : pz_S) (H : Heap) (locs : List Loc), pz_J f' g' → lz_H D h0 r0 ca0 f' h1 r1 ca1 g' s H locs → W p l e room_1 s m #[Value.ref b] below meth c H locs 17 375 Q (F0 m 412 ls [])) : W p l e room_1 s m #[Value.ref b] below meth c H locs 17 375 Q (F0 m 208 ls []) := by
  have hx := C.1
  have hb := C.2.1
  have hts := C.2.2.2.2.1
  have hF := lz_J_Fo hJ
  refine lv_aload_n hx hb dL_law_208 rfl (lv_at hl 1 rfl) ?_
  refine lv_aload_n hx hb dL_law_209 rfl (lv_at hl 0 rfl) ?_
  refine lv_iload_n hx hb dL_law_210 rfl (lv_at hl 3 rfl) ?_
  refine lv_iconst (v := 1) hx hb dL_law_211 (by decide) ?_
  refine lv_iadd hx hb dL_law_212 ?_
  refine lz_rd C hH (nI_1 i) (by omega) dL_law_213 ?_
  refine lv_aload_n hx hb dL_law_214 rfl (lv_at hl 0 rfl) ?_
  refine lv_iload_n hx hb dL_law_215 rfl (lv_at hl 3 rfl) ?_
  refine lv_iconst (v := 2) hx hb dL_law_216 (by decide) ?_
  refine lv_iadd hx hb dL_law_217 ?_
  refine lz_rd C hH (lz_2 i) (by omega) dL_law_218 ?_
  refine lz_c0 C hl.1 hH (wz_paint (x := xs (i + 1)) (y := xs (i + 2)) hJ) (cwV 2 hts (lw_V q126 q127 q128 q11 q129) rfl rfl rfl (by decide +kernel) ⟨Nat.le_of_ble_eq_true rfl, Nat.le_of_ble_eq_true rfl⟩) rfl rfl (Nat.le_of_ble_eq_true rfl) dL_law_219 ⟨Nat.le_of_ble_eq_true rfl, Nat.le_of_ble_eq_true rfl⟩ (fun v F H locs hp hH => ?_)
  refine lv_aload_n hx hb dL_law_222 rfl (lv_at hl 2 rfl) ?_
  refine lv_aload_n hx hb dL_law_223 rfl (lv_at hl 0 rfl) ?_
  refine lv_iload_n hx hb dL_law_224 rfl (lv_at hl 3 rfl) ?_
  refine lv_iconst (v := 1) hx hb dL_law_225 (by decide) ?_
  refine lv_iadd hx hb dL_law_226 ?_
  refine lz_rd C hH (nI_1 i) (by omega) dL_law_227 ?_
  refine lv_aload_n hx hb dL_law_228 rfl (lv_at hl 0 rfl) ?_
  refine lv_iload_n hx hb dL_law_229 rfl (lv_at hl 3 rfl) ?_
  refine lv_iconst (v := 2) hx hb dL_law_230 (by decide) ?_
  refine lv_iadd hx hb dL_law_231 ?_
  refine lz_rd C hH (lz_2 i) (by omega) dL_law_232 ?_
  refine lz_c1 C hl.1 hH (wm_paint (g := g) (x := xs (i + 1)) (y := xs (i + 2)) hF) (cwV 2 hts (lw_V q188 q189 q190 q12 q191) rfl rfl rfl (by decide +kernel) ⟨Nat.le_of_ble_eq_true rfl, Nat.le_of_ble_eq_true rfl⟩) rfl rfl (Nat.le_of_ble_eq_true rfl) dL_law_233 ⟨Nat.le_of_ble_eq_true rfl, Nat.le_of_ble_eq_true rfl⟩ (fun w G H locs hq hH => ?_)
  refine lv_icmp_eq (tgt := 412) hx hb dL_law_236 (by decide) (fun cq => ?_) (fun cq => ?_)
  · exact kk F G _ _ (by rw [hq.2]; exact hp.2) hH
  · exact absurd (hp.1.trans hq.1.symm) cq

set_option maxHeartbeats 4000000 in
set_option maxRecDepth 100000 in
/-- case 5: root -/
theorem lz_case5 {p : Program} {l : Launch} {e : Env} {s : State} {m : MethodId} {below : List Frame} {meth : Method} {c : Code} {H : Heap} {locs : List Loc} {Q : State → Prop} {ls : Array Slot} {D : va_G} {b L h0 h1 i : Nat} {xs : Nat → Int32} {ca0 ca1 : Nat → ClassId} {r0 r1 : Nat → Nat} {f g : pz_S} (C : lz_C p s m c b L xs D ca0 ca1) (hH : lz_H D h0 r0 ca0 f h1 r1 ca1 g s H locs) (hJ : pz_J f g) (hi : i + 3 ≤ L) (hl : lv_has ls 4 [(0, .ref b), (1, .ref h0), (2, .ref h1), (3, .int (nI i))])
    (kk : ∀ (f' g' : pz_S) (H : Heap) (locs : List Loc), pz_J f' g' → lz_H D h0 r0 ca0 f' h1 r1 ca1 g' s H locs → W p l e room_1 s m #[Value.ref b] below meth c H locs 17 375 Q (F0 m 412 ls [])) : W p l e room_1 s m #[Value.ref b] below meth c H locs 17 375 Q (F0 m 241 ls []) := by
  have hx := C.1
  have hb := C.2.1
  have hts := C.2.2.2.2.1
  have hF := lz_J_Fo hJ
  refine lv_aload_n hx hb dL_law_241 rfl (lv_at hl 1 rfl) ?_
  refine lv_aload_n hx hb dL_law_242 rfl (lv_at hl 0 rfl) ?_
  refine lv_iload_n hx hb dL_law_243 rfl (lv_at hl 3 rfl) ?_
  refine lv_iconst (v := 1) hx hb dL_law_244 (by decide) ?_
  refine lv_iadd hx hb dL_law_245 ?_
  refine lz_rd C hH (nI_1 i) (by omega) dL_law_246 ?_
  refine lz_c0 C hl.1 hH (wz_root (x := xs (i + 1)) hJ) (cwV 1 hts (lw_V q130 q71 q72 q11 q73) rfl rfl rfl (by decide +kernel) ⟨Nat.le_of_ble_eq_true rfl, Nat.le_of_ble_eq_true rfl⟩) rfl rfl (Nat.le_of_ble_eq_true rfl) dL_law_247 ⟨Nat.le_of_ble_eq_true rfl, Nat.le_of_ble_eq_true rfl⟩ (fun v F H locs hp hH => ?_)
  refine lv_aload_n hx hb dL_law_250 rfl (lv_at hl 2 rfl) ?_
  refine lv_aload_n hx hb dL_law_251 rfl (lv_at hl 0 rfl) ?_
  refine lv_iload_n hx hb dL_law_252 rfl (lv_at hl 3 rfl) ?_
  refine lv_iconst (v := 1) hx hb dL_law_253 (by decide) ?_
  refine lv_iadd hx hb dL_law_254 ?_
  refine lz_rd C hH (nI_1 i) (by omega) dL_law_255 ?_
  refine lz_c1 C hl.1 hH (wm_root (g := g) (x := xs (i + 1)) hF) (cwV 1 hts (lw_V q192 q173 q174 q12 q175) rfl rfl rfl (by decide +kernel) ⟨Nat.le_of_ble_eq_true rfl, Nat.le_of_ble_eq_true rfl⟩) rfl rfl (Nat.le_of_ble_eq_true rfl) dL_law_256 ⟨Nat.le_of_ble_eq_true rfl, Nat.le_of_ble_eq_true rfl⟩ (fun w G H locs hq hH => ?_)
  refine lv_icmp_eq (tgt := 412) hx hb dL_law_259 (by decide) (fun cq => ?_) (fun cq => ?_)
  · exact kk F G _ _ (by rw [hq.2]; exact hp.2) hH
  · exact absurd (hp.1.trans hq.1.symm) cq

set_option maxHeartbeats 4000000 in
set_option maxRecDepth 100000 in
/-- case 6: parent -/
theorem lz_case6 {p : Program} {l : Launch} {e : Env} {s : State} {m : MethodId} {below : List Frame} {meth : Method} {c : Code} {H : Heap} {locs : List Loc} {Q : State → Prop} {ls : Array Slot} {D : va_G} {b L h0 h1 i : Nat} {xs : Nat → Int32} {ca0 ca1 : Nat → ClassId} {r0 r1 : Nat → Nat} {f g : pz_S} (C : lz_C p s m c b L xs D ca0 ca1) (hH : lz_H D h0 r0 ca0 f h1 r1 ca1 g s H locs) (hJ : pz_J f g) (hi : i + 3 ≤ L) (hl : lv_has ls 4 [(0, .ref b), (1, .ref h0), (2, .ref h1), (3, .int (nI i))])
    (kk : ∀ (f' g' : pz_S) (H : Heap) (locs : List Loc), pz_J f' g' → lz_H D h0 r0 ca0 f' h1 r1 ca1 g' s H locs → W p l e room_1 s m #[Value.ref b] below meth c H locs 17 375 Q (F0 m 412 ls [])) : W p l e room_1 s m #[Value.ref b] below meth c H locs 17 375 Q (F0 m 264 ls []) := by
  have hx := C.1
  have hb := C.2.1
  have hts := C.2.2.2.2.1
  have hF := lz_J_Fo hJ
  refine lv_aload_n hx hb dL_law_264 rfl (lv_at hl 1 rfl) ?_
  refine lv_aload_n hx hb dL_law_265 rfl (lv_at hl 0 rfl) ?_
  refine lv_iload_n hx hb dL_law_266 rfl (lv_at hl 3 rfl) ?_
  refine lv_iconst (v := 1) hx hb dL_law_267 (by decide) ?_
  refine lv_iadd hx hb dL_law_268 ?_
  refine lz_rd C hH (nI_1 i) (by omega) dL_law_269 ?_
  refine lz_c0 C hl.1 hH (wz_parent (x := xs (i + 1)) hJ) (cwV 1 hts (lw_V q131 q115 q116 q11 q117) rfl rfl rfl (by decide +kernel) ⟨Nat.le_of_ble_eq_true rfl, Nat.le_of_ble_eq_true rfl⟩) rfl rfl (Nat.le_of_ble_eq_true rfl) dL_law_270 ⟨Nat.le_of_ble_eq_true rfl, Nat.le_of_ble_eq_true rfl⟩ (fun v F H locs hp hH => ?_)
  refine lv_aload_n hx hb dL_law_273 rfl (lv_at hl 2 rfl) ?_
  refine lv_aload_n hx hb dL_law_274 rfl (lv_at hl 0 rfl) ?_
  refine lv_iload_n hx hb dL_law_275 rfl (lv_at hl 3 rfl) ?_
  refine lv_iconst (v := 1) hx hb dL_law_276 (by decide) ?_
  refine lv_iadd hx hb dL_law_277 ?_
  refine lz_rd C hH (nI_1 i) (by omega) dL_law_278 ?_
  refine lz_c1 C hl.1 hH (wm_parent (g := g) (x := xs (i + 1))) (cwV 1 hts (lw_V q193 q194 q195 q12 q196) rfl rfl rfl (by decide +kernel) ⟨Nat.le_of_ble_eq_true rfl, Nat.le_of_ble_eq_true rfl⟩) rfl rfl (Nat.le_of_ble_eq_true rfl) dL_law_279 ⟨Nat.le_of_ble_eq_true rfl, Nat.le_of_ble_eq_true rfl⟩ (fun w G H locs hq hH => ?_)
  refine lv_icmp_eq (tgt := 412) hx hb dL_law_282 (by decide) (fun cq => ?_) (fun cq => ?_)
  · exact kk F G _ _ (by rw [hq.2]; exact hp.2) hH
  · exact absurd (hp.1.trans hq.1.symm) cq

set_option maxHeartbeats 4000000 in
set_option maxRecDepth 100000 in
/-- case 7: depth -/
theorem lz_case7 {p : Program} {l : Launch} {e : Env} {s : State} {m : MethodId} {below : List Frame} {meth : Method} {c : Code} {H : Heap} {locs : List Loc} {Q : State → Prop} {ls : Array Slot} {D : va_G} {b L h0 h1 i : Nat} {xs : Nat → Int32} {ca0 ca1 : Nat → ClassId} {r0 r1 : Nat → Nat} {f g : pz_S} (C : lz_C p s m c b L xs D ca0 ca1) (hH : lz_H D h0 r0 ca0 f h1 r1 ca1 g s H locs) (hJ : pz_J f g) (hi : i + 3 ≤ L) (hl : lv_has ls 4 [(0, .ref b), (1, .ref h0), (2, .ref h1), (3, .int (nI i))])
    (kk : ∀ (f' g' : pz_S) (H : Heap) (locs : List Loc), pz_J f' g' → lz_H D h0 r0 ca0 f' h1 r1 ca1 g' s H locs → W p l e room_1 s m #[Value.ref b] below meth c H locs 17 375 Q (F0 m 412 ls [])) : W p l e room_1 s m #[Value.ref b] below meth c H locs 17 375 Q (F0 m 287 ls []) := by
  have hx := C.1
  have hb := C.2.1
  have hts := C.2.2.2.2.1
  have hF := lz_J_Fo hJ
  refine lv_aload_n hx hb dL_law_287 rfl (lv_at hl 1 rfl) ?_
  refine lv_aload_n hx hb dL_law_288 rfl (lv_at hl 0 rfl) ?_
  refine lv_iload_n hx hb dL_law_289 rfl (lv_at hl 3 rfl) ?_
  refine lv_iconst (v := 1) hx hb dL_law_290 (by decide) ?_
  refine lv_iadd hx hb dL_law_291 ?_
  refine lz_rd C hH (nI_1 i) (by omega) dL_law_292 ?_
  refine lz_c0 C hl.1 hH (wz_depth (x := xs (i + 1)) hJ) (cwV 1 hts (lw_V q132 q133 q134 q11 q135) rfl rfl rfl (by decide +kernel) ⟨Nat.le_of_ble_eq_true rfl, Nat.le_of_ble_eq_true rfl⟩) rfl rfl (Nat.le_of_ble_eq_true rfl) dL_law_293 ⟨Nat.le_of_ble_eq_true rfl, Nat.le_of_ble_eq_true rfl⟩ (fun v F H locs hp hH => ?_)
  refine lv_aload_n hx hb dL_law_296 rfl (lv_at hl 2 rfl) ?_
  refine lv_aload_n hx hb dL_law_297 rfl (lv_at hl 0 rfl) ?_
  refine lv_iload_n hx hb dL_law_298 rfl (lv_at hl 3 rfl) ?_
  refine lv_iconst (v := 1) hx hb dL_law_299 (by decide) ?_
  refine lv_iadd hx hb dL_law_300 ?_
  refine lz_rd C hH (nI_1 i) (by omega) dL_law_301 ?_
  refine lz_c1 C hl.1 hH (wm_depth (g := g) (x := xs (i + 1)) hF) (cwV 1 hts (lw_V q197 q198 q199 q12 q200) rfl rfl rfl (by decide +kernel) ⟨Nat.le_of_ble_eq_true rfl, Nat.le_of_ble_eq_true rfl⟩) rfl rfl (Nat.le_of_ble_eq_true rfl) dL_law_302 ⟨Nat.le_of_ble_eq_true rfl, Nat.le_of_ble_eq_true rfl⟩ (fun w G H locs hq hH => ?_)
  refine lv_icmp_eq (tgt := 412) hx hb dL_law_305 (by decide) (fun cq => ?_) (fun cq => ?_)
  · exact kk F G _ _ (by rw [hq.2]; exact hp.2) hH
  · exact absurd (hp.1.trans hq.1.symm) cq

set_option maxHeartbeats 4000000 in
set_option maxRecDepth 100000 in
/-- case 8: sumUp -/
theorem lz_case8 {p : Program} {l : Launch} {e : Env} {s : State} {m : MethodId} {below : List Frame} {meth : Method} {c : Code} {H : Heap} {locs : List Loc} {Q : State → Prop} {ls : Array Slot} {D : va_G} {b L h0 h1 i : Nat} {xs : Nat → Int32} {ca0 ca1 : Nat → ClassId} {r0 r1 : Nat → Nat} {f g : pz_S} (C : lz_C p s m c b L xs D ca0 ca1) (hH : lz_H D h0 r0 ca0 f h1 r1 ca1 g s H locs) (hJ : pz_J f g) (hi : i + 3 ≤ L) (hl : lv_has ls 4 [(0, .ref b), (1, .ref h0), (2, .ref h1), (3, .int (nI i))])
    (kk : ∀ (f' g' : pz_S) (H : Heap) (locs : List Loc), pz_J f' g' → lz_H D h0 r0 ca0 f' h1 r1 ca1 g' s H locs → W p l e room_1 s m #[Value.ref b] below meth c H locs 17 375 Q (F0 m 412 ls [])) : W p l e room_1 s m #[Value.ref b] below meth c H locs 17 375 Q (F0 m 310 ls []) := by
  have hx := C.1
  have hb := C.2.1
  have hts := C.2.2.2.2.1
  have hF := lz_J_Fo hJ
  refine lv_aload_n hx hb dL_law_310 rfl (lv_at hl 1 rfl) ?_
  refine lv_aload_n hx hb dL_law_311 rfl (lv_at hl 0 rfl) ?_
  refine lv_iload_n hx hb dL_law_312 rfl (lv_at hl 3 rfl) ?_
  refine lv_iconst (v := 1) hx hb dL_law_313 (by decide) ?_
  refine lv_iadd hx hb dL_law_314 ?_
  refine lz_rd C hH (nI_1 i) (by omega) dL_law_315 ?_
  refine lz_c0 C hl.1 hH (wz_sumUp (x := xs (i + 1)) hJ) (cwV 1 hts (lw_V q136 q137 q138 q11 q139) rfl rfl rfl (by decide +kernel) ⟨Nat.le_of_ble_eq_true rfl, Nat.le_of_ble_eq_true rfl⟩) rfl rfl (Nat.le_of_ble_eq_true rfl) dL_law_316 ⟨Nat.le_of_ble_eq_true rfl, Nat.le_of_ble_eq_true rfl⟩ (fun v F H locs hp hH => ?_)
  refine lv_aload_n hx hb dL_law_319 rfl (lv_at hl 2 rfl) ?_
  refine lv_aload_n hx hb dL_law_320 rfl (lv_at hl 0 rfl) ?_
  refine lv_iload_n hx hb dL_law_321 rfl (lv_at hl 3 rfl) ?_
  refine lv_iconst (v := 1) hx hb dL_law_322 (by decide) ?_
  refine lv_iadd hx hb dL_law_323 ?_
  refine lz_rd C hH (nI_1 i) (by omega) dL_law_324 ?_
  refine lz_c1 C hl.1 hH (wm_sumUp (g := g) (x := xs (i + 1)) hF) (cwV 1 hts (lw_V q201 q202 q203 q12 q204) rfl rfl rfl (by decide +kernel) ⟨Nat.le_of_ble_eq_true rfl, Nat.le_of_ble_eq_true rfl⟩) rfl rfl (Nat.le_of_ble_eq_true rfl) dL_law_325 ⟨Nat.le_of_ble_eq_true rfl, Nat.le_of_ble_eq_true rfl⟩ (fun w G H locs hq hH => ?_)
  refine lv_icmp_eq (tgt := 412) hx hb dL_law_328 (by decide) (fun cq => ?_) (fun cq => ?_)
  · exact kk F G _ _ (by rw [hq.2]; exact hp.2) hH
  · exact absurd (hp.1.trans hq.1.symm) cq

set_option maxHeartbeats 4000000 in
set_option maxRecDepth 100000 in
/-- case 9: leastUp -/
theorem lz_case9 {p : Program} {l : Launch} {e : Env} {s : State} {m : MethodId} {below : List Frame} {meth : Method} {c : Code} {H : Heap} {locs : List Loc} {Q : State → Prop} {ls : Array Slot} {D : va_G} {b L h0 h1 i : Nat} {xs : Nat → Int32} {ca0 ca1 : Nat → ClassId} {r0 r1 : Nat → Nat} {f g : pz_S} (C : lz_C p s m c b L xs D ca0 ca1) (hH : lz_H D h0 r0 ca0 f h1 r1 ca1 g s H locs) (hJ : pz_J f g) (hi : i + 3 ≤ L) (hl : lv_has ls 4 [(0, .ref b), (1, .ref h0), (2, .ref h1), (3, .int (nI i))])
    (kk : ∀ (f' g' : pz_S) (H : Heap) (locs : List Loc), pz_J f' g' → lz_H D h0 r0 ca0 f' h1 r1 ca1 g' s H locs → W p l e room_1 s m #[Value.ref b] below meth c H locs 17 375 Q (F0 m 412 ls [])) : W p l e room_1 s m #[Value.ref b] below meth c H locs 17 375 Q (F0 m 333 ls []) := by
  have hx := C.1
  have hb := C.2.1
  have hts := C.2.2.2.2.1
  have hF := lz_J_Fo hJ
  refine lv_aload_n hx hb dL_law_333 rfl (lv_at hl 1 rfl) ?_
  refine lv_aload_n hx hb dL_law_334 rfl (lv_at hl 0 rfl) ?_
  refine lv_iload_n hx hb dL_law_335 rfl (lv_at hl 3 rfl) ?_
  refine lv_iconst (v := 1) hx hb dL_law_336 (by decide) ?_
  refine lv_iadd hx hb dL_law_337 ?_
  refine lz_rd C hH (nI_1 i) (by omega) dL_law_338 ?_
  refine lz_c0 C hl.1 hH (wz_leastUp (x := xs (i + 1)) hJ) (cwV 1 hts (lw_V q140 q141 q142 q11 q143) rfl rfl rfl (by decide +kernel) ⟨Nat.le_of_ble_eq_true rfl, Nat.le_of_ble_eq_true rfl⟩) rfl rfl (Nat.le_of_ble_eq_true rfl) dL_law_339 ⟨Nat.le_of_ble_eq_true rfl, Nat.le_of_ble_eq_true rfl⟩ (fun v F H locs hp hH => ?_)
  refine lv_aload_n hx hb dL_law_342 rfl (lv_at hl 2 rfl) ?_
  refine lv_aload_n hx hb dL_law_343 rfl (lv_at hl 0 rfl) ?_
  refine lv_iload_n hx hb dL_law_344 rfl (lv_at hl 3 rfl) ?_
  refine lv_iconst (v := 1) hx hb dL_law_345 (by decide) ?_
  refine lv_iadd hx hb dL_law_346 ?_
  refine lz_rd C hH (nI_1 i) (by omega) dL_law_347 ?_
  refine lz_c1 C hl.1 hH (wm_leastUp (g := g) (x := xs (i + 1)) hF) (cwV 1 hts (lw_V q205 q206 q207 q12 q208) rfl rfl rfl (by decide +kernel) ⟨Nat.le_of_ble_eq_true rfl, Nat.le_of_ble_eq_true rfl⟩) rfl rfl (Nat.le_of_ble_eq_true rfl) dL_law_348 ⟨Nat.le_of_ble_eq_true rfl, Nat.le_of_ble_eq_true rfl⟩ (fun w G H locs hq hH => ?_)
  refine lv_icmp_eq (tgt := 412) hx hb dL_law_351 (by decide) (fun cq => ?_) (fun cq => ?_)
  · exact kk F G _ _ (by rw [hq.2]; exact hp.2) hH
  · exact absurd (hp.1.trans hq.1.symm) cq

set_option maxHeartbeats 4000000 in
set_option maxRecDepth 100000 in
/-- case 10: meet -/
theorem lz_case10 {p : Program} {l : Launch} {e : Env} {s : State} {m : MethodId} {below : List Frame} {meth : Method} {c : Code} {H : Heap} {locs : List Loc} {Q : State → Prop} {ls : Array Slot} {D : va_G} {b L h0 h1 i : Nat} {xs : Nat → Int32} {ca0 ca1 : Nat → ClassId} {r0 r1 : Nat → Nat} {f g : pz_S} (C : lz_C p s m c b L xs D ca0 ca1) (hH : lz_H D h0 r0 ca0 f h1 r1 ca1 g s H locs) (hJ : pz_J f g) (hi : i + 3 ≤ L) (hl : lv_has ls 4 [(0, .ref b), (1, .ref h0), (2, .ref h1), (3, .int (nI i))])
    (kk : ∀ (f' g' : pz_S) (H : Heap) (locs : List Loc), pz_J f' g' → lz_H D h0 r0 ca0 f' h1 r1 ca1 g' s H locs → W p l e room_1 s m #[Value.ref b] below meth c H locs 17 375 Q (F0 m 412 ls [])) : W p l e room_1 s m #[Value.ref b] below meth c H locs 17 375 Q (F0 m 356 ls []) := by
  have hx := C.1
  have hb := C.2.1
  have hts := C.2.2.2.2.1
  have hF := lz_J_Fo hJ
  refine lv_aload_n hx hb dL_law_356 rfl (lv_at hl 1 rfl) ?_
  refine lv_aload_n hx hb dL_law_357 rfl (lv_at hl 0 rfl) ?_
  refine lv_iload_n hx hb dL_law_358 rfl (lv_at hl 3 rfl) ?_
  refine lv_iconst (v := 1) hx hb dL_law_359 (by decide) ?_
  refine lv_iadd hx hb dL_law_360 ?_
  refine lz_rd C hH (nI_1 i) (by omega) dL_law_361 ?_
  refine lv_aload_n hx hb dL_law_362 rfl (lv_at hl 0 rfl) ?_
  refine lv_iload_n hx hb dL_law_363 rfl (lv_at hl 3 rfl) ?_
  refine lv_iconst (v := 2) hx hb dL_law_364 (by decide) ?_
  refine lv_iadd hx hb dL_law_365 ?_
  refine lz_rd C hH (lz_2 i) (by omega) dL_law_366 ?_
  refine lz_c0 C hl.1 hH (wz_meet (x := xs (i + 1)) (y := xs (i + 2)) hJ) (cwV 2 hts (lw_V q144 q145 q146 q11 q147) rfl rfl rfl (by decide +kernel) ⟨Nat.le_of_ble_eq_true rfl, Nat.le_of_ble_eq_true rfl⟩) rfl rfl (Nat.le_of_ble_eq_true rfl) dL_law_367 ⟨Nat.le_of_ble_eq_true rfl, Nat.le_of_ble_eq_true rfl⟩ (fun v F H locs hp hH => ?_)
  refine lv_aload_n hx hb dL_law_370 rfl (lv_at hl 2 rfl) ?_
  refine lv_aload_n hx hb dL_law_371 rfl (lv_at hl 0 rfl) ?_
  refine lv_iload_n hx hb dL_law_372 rfl (lv_at hl 3 rfl) ?_
  refine lv_iconst (v := 1) hx hb dL_law_373 (by decide) ?_
  refine lv_iadd hx hb dL_law_374 ?_
  refine lz_rd C hH (nI_1 i) (by omega) dL_law_375 ?_
  refine lv_aload_n hx hb dL_law_376 rfl (lv_at hl 0 rfl) ?_
  refine lv_iload_n hx hb dL_law_377 rfl (lv_at hl 3 rfl) ?_
  refine lv_iconst (v := 2) hx hb dL_law_378 (by decide) ?_
  refine lv_iadd hx hb dL_law_379 ?_
  refine lz_rd C hH (lz_2 i) (by omega) dL_law_380 ?_
  refine lz_c1 C hl.1 hH (wm_meet (g := g) (x := xs (i + 1)) (y := xs (i + 2)) hF) (cwV 2 hts (lw_V q209 q210 q211 q12 q212) rfl rfl rfl (by decide +kernel) ⟨Nat.le_of_ble_eq_true rfl, Nat.le_of_ble_eq_true rfl⟩) rfl rfl (Nat.le_of_ble_eq_true rfl) dL_law_381 ⟨Nat.le_of_ble_eq_true rfl, Nat.le_of_ble_eq_true rfl⟩ (fun w G H locs hq hH => ?_)
  refine lv_icmp_eq (tgt := 412) hx hb dL_law_384 (by decide) (fun cq => ?_) (fun cq => ?_)
  · exact kk F G _ _ (by rw [hq.2]; exact hp.2) hH
  · exact absurd (hp.1.trans hq.1.symm) cq

set_option maxHeartbeats 4000000 in
set_option maxRecDepth 100000 in
/-- case 11: sumPart -/
theorem lz_case11 {p : Program} {l : Launch} {e : Env} {s : State} {m : MethodId} {below : List Frame} {meth : Method} {c : Code} {H : Heap} {locs : List Loc} {Q : State → Prop} {ls : Array Slot} {D : va_G} {b L h0 h1 i : Nat} {xs : Nat → Int32} {ca0 ca1 : Nat → ClassId} {r0 r1 : Nat → Nat} {f g : pz_S} (C : lz_C p s m c b L xs D ca0 ca1) (hH : lz_H D h0 r0 ca0 f h1 r1 ca1 g s H locs) (hJ : pz_J f g) (hi : i + 3 ≤ L) (hl : lv_has ls 4 [(0, .ref b), (1, .ref h0), (2, .ref h1), (3, .int (nI i))])
    (kk : ∀ (f' g' : pz_S) (H : Heap) (locs : List Loc), pz_J f' g' → lz_H D h0 r0 ca0 f' h1 r1 ca1 g' s H locs → W p l e room_1 s m #[Value.ref b] below meth c H locs 17 375 Q (F0 m 412 ls [])) : W p l e room_1 s m #[Value.ref b] below meth c H locs 17 375 Q (F0 m 389 ls []) := by
  have hx := C.1
  have hb := C.2.1
  have hts := C.2.2.2.2.1
  have hF := lz_J_Fo hJ
  refine lv_aload_n hx hb dL_law_389 rfl (lv_at hl 1 rfl) ?_
  refine lv_aload_n hx hb dL_law_390 rfl (lv_at hl 0 rfl) ?_
  refine lv_iload_n hx hb dL_law_391 rfl (lv_at hl 3 rfl) ?_
  refine lv_iconst (v := 1) hx hb dL_law_392 (by decide) ?_
  refine lv_iadd hx hb dL_law_393 ?_
  refine lz_rd C hH (nI_1 i) (by omega) dL_law_394 ?_
  refine lz_c0 C hl.1 hH (wz_sumPart (x := xs (i + 1)) hJ) (cwV 1 hts (lw_V q148 q149 q150 q11 q151) rfl rfl rfl (by decide +kernel) ⟨Nat.le_of_ble_eq_true rfl, Nat.le_of_ble_eq_true rfl⟩) rfl rfl (Nat.le_of_ble_eq_true rfl) dL_law_395 ⟨Nat.le_of_ble_eq_true rfl, Nat.le_of_ble_eq_true rfl⟩ (fun v F H locs hp hH => ?_)
  refine lv_aload_n hx hb dL_law_398 rfl (lv_at hl 2 rfl) ?_
  refine lv_aload_n hx hb dL_law_399 rfl (lv_at hl 0 rfl) ?_
  refine lv_iload_n hx hb dL_law_400 rfl (lv_at hl 3 rfl) ?_
  refine lv_iconst (v := 1) hx hb dL_law_401 (by decide) ?_
  refine lv_iadd hx hb dL_law_402 ?_
  refine lz_rd C hH (nI_1 i) (by omega) dL_law_403 ?_
  refine lz_c1 C hl.1 hH (wm_sumPart (g := g) (x := xs (i + 1)) hF) (cwV 1 hts (lw_V q217 q218 q219 q12 q220) rfl rfl rfl (by decide +kernel) ⟨Nat.le_of_ble_eq_true rfl, Nat.le_of_ble_eq_true rfl⟩) rfl rfl (Nat.le_of_ble_eq_true rfl) dL_law_404 ⟨Nat.le_of_ble_eq_true rfl, Nat.le_of_ble_eq_true rfl⟩ (fun w G H locs hq hH => ?_)
  refine lv_icmp_eq (tgt := 412) hx hb dL_law_407 (by decide) (fun cq => ?_) (fun cq => ?_)
  · exact kk F G _ _ (by rw [hq.2]; exact hp.2) hH
  · exact absurd (hp.1.trans hq.1.symm) cq
end
section
/-! WALK 11: the law (printed by wip/D-64312w/gen/law.py) -/
set_option maxHeartbeats 4000000 in
set_option maxRecDepth 100000 in
/-- the law's loop -/
theorem lz_loop {p : Program} {l : Launch} {e : Env} {s : State} {m : MethodId} {below : List Frame} {meth : Method} {c : Code} {D : va_G} {b L h0 h1 : Nat} {xs : Nat → Int32} {ca0 ca1 : Nat → ClassId} {r0 r1 : Nat → Nat} (C : lz_C p s m c b L xs D ca0 ca1) (hr : meth.sig.returnType = ret) (hlocks : meth.locks = false) :
    ∀ (z i : Nat) (f g : pz_S) (H : Heap) (locs : List Loc) (ls : Array Slot), L ≤ i + z → i ≤ 195 → pz_J f g → lz_H D h0 r0 ca0 f h1 r1 ca1 g s H locs → lv_has ls 4 [(0, .ref b), (1, .ref h0), (2, .ref h1), (3, .int (nI i))] → W p l e room_1 s m #[Value.ref b] below meth c H locs 17 375 (lw_Z below #[Value.ref b] s) (F0 m 18 ls []) := by
  have hx := C.1
  have hb := C.2.1
  obtain ⟨-, -, hml, hown, hts, hK0, hK1, hX, hbl, hL⟩ := id C
  intro z
  induction z with
  | zero =>
    intro i f g H locs ls hz hi hJ hH hl
    refine lv_iload_n hx hb dL_law_18 rfl (lv_at hl 3 rfl) ?_
    refine lv_aload_n hx hb dL_law_19 rfl (lv_at hl 0 rfl) ?_
    refine va_slen (A := fun q => s.heap.size ≤ q) hx hb hX hbl (Nat.not_le.mpr hbl) hH.2.2 dL_law_20 ?_
    refine lv_iconst (v := 3) hx hb dL_law_21 (by decide) ?_
    refine lv_isub hx hb dL_law_22 ?_
    refine lv_icmp_gt (tgt := 418) hx hb dL_law_23 (by decide) (fun c23 => ?_) (fun c23 => ?_)
    · refine lv_iconst (v := 1) hx hb dL_law_418 (by decide) ?_
      refine va_forget (fun q hq => hH.2.2.2.2 q hq) ?_
      refine W.widen (k := 600000) (n := 7290000) (by decide) (by decide) ?_
      exact lw_ret hx hb hr hlocks dL_law_419
    · exact absurd (lz_more hL (by omega) c23) (by omega)
  | succ z ih =>
    intro i f g H locs ls hz hi hJ hH hl
    refine lv_iload_n hx hb dL_law_18 rfl (lv_at hl 3 rfl) ?_
    refine lv_aload_n hx hb dL_law_19 rfl (lv_at hl 0 rfl) ?_
    refine va_slen (A := fun q => s.heap.size ≤ q) hx hb hX hbl (Nat.not_le.mpr hbl) hH.2.2 dL_law_20 ?_
    refine lv_iconst (v := 3) hx hb dL_law_21 (by decide) ?_
    refine lv_isub hx hb dL_law_22 ?_
    refine lv_icmp_gt (tgt := 418) hx hb dL_law_23 (by decide) (fun c23 => ?_) (fun c23 => ?_)
    · refine lv_iconst (v := 1) hx hb dL_law_418 (by decide) ?_
      refine va_forget (fun q hq => hH.2.2.2.2 q hq) ?_
      refine W.widen (k := 600000) (n := 7290000) (by decide) (by decide) ?_
      exact lw_ret hx hb hr hlocks dL_law_419
    · have hi3 : i + 3 ≤ L := lz_more hL (by omega) c23
      have kk : ∀ (f' g' : pz_S) (H : Heap) (locs : List Loc), pz_J f' g' → lz_H D h0 r0 ca0 f' h1 r1 ca1 g' s H locs → W p l e room_1 s m #[Value.ref b] below meth c H locs 17 375 (lw_Z below #[Value.ref b] s) (F0 m 412 ls []) := by
        intro f' g' H locs hJ' hH'
        refine lv_iinc (v := nI (i + 3)) (lv' := [(3, .int (nI (i + 3))), (0, .ref b), (1, .ref h0), (2, .ref h1)]) hx hb dL_law_412 hl (k := 3) rfl (lz_3 i) (by decide) rfl (fun ls hl => ?_)
        refine lv_goto (tgt := 18) hx hb dL_law_415 (by decide) ?_
        exact ih (i + 3) f' g' _ _ ls (by omega) (by omega) hJ' hH' (lv_sub hl [1, 2, 3, 0] rfl)
      refine lv_aload_n hx hb dL_law_26 rfl (lv_at hl 0 rfl) ?_
      refine lv_iload_n hx hb dL_law_27 rfl (lv_at hl 3 rfl) ?_
      refine lz_rd C hH rfl (by omega) dL_law_28 ?_
      refine lv_bipush (v := 15) hx hb dL_law_29 (by decide) ?_
      refine lv_iand hx hb dL_law_31 ?_
      refine lv_topi (fun v ev => ?_)
      by_cases hv : v.toInt < 0 ∨ 11 < v.toInt
      · exact lv_tableOut (tgt := 412) hx hb dL_law_32 hv (by decide) (kk f g _ _ hJ hH)
      · have h12 : v.toInt = 0 ∨ v.toInt = 1 ∨ v.toInt = 2 ∨ v.toInt = 3 ∨ v.toInt = 4 ∨ v.toInt = 5 ∨ v.toInt = 6 ∨ v.toInt = 7 ∨ v.toInt = 8 ∨ v.toInt = 9 ∨ v.toInt = 10 ∨ v.toInt = 11 := by omega
        rcases h12 with h9 | h9 | h9 | h9 | h9 | h9 | h9 | h9 | h9 | h9 | h9 | h9
        · exact lv_tableIn (off := 64) (tgt := 96) hx hb dL_law_32 (by omega) (by omega) (by rw [h9]; rfl) (by decide) (lz_case0 C hH hJ hi3 hl kk)
        · exact lv_tableIn (off := 97) (tgt := 129) hx hb dL_law_32 (by omega) (by omega) (by rw [h9]; rfl) (by decide) (lz_case1 C hH hJ hi3 hl kk)
        · exact lv_tableIn (off := 120) (tgt := 152) hx hb dL_law_32 (by omega) (by omega) (by rw [h9]; rfl) (by decide) (lz_case2 C hH hJ hi3 hl kk)
        · exact lv_tableIn (off := 143) (tgt := 175) hx hb dL_law_32 (by omega) (by omega) (by rw [h9]; rfl) (by decide) (lz_case3 C hH hJ hi3 hl kk)
        · exact lv_tableIn (off := 176) (tgt := 208) hx hb dL_law_32 (by omega) (by omega) (by rw [h9]; rfl) (by decide) (lz_case4 C hH hJ hi3 hl kk)
        · exact lv_tableIn (off := 209) (tgt := 241) hx hb dL_law_32 (by omega) (by omega) (by rw [h9]; rfl) (by decide) (lz_case5 C hH hJ hi3 hl kk)
        · exact lv_tableIn (off := 232) (tgt := 264) hx hb dL_law_32 (by omega) (by omega) (by rw [h9]; rfl) (by decide) (lz_case6 C hH hJ hi3 hl kk)
        · exact lv_tableIn (off := 255) (tgt := 287) hx hb dL_law_32 (by omega) (by omega) (by rw [h9]; rfl) (by decide) (lz_case7 C hH hJ hi3 hl kk)
        · exact lv_tableIn (off := 278) (tgt := 310) hx hb dL_law_32 (by omega) (by omega) (by rw [h9]; rfl) (by decide) (lz_case8 C hH hJ hi3 hl kk)
        · exact lv_tableIn (off := 301) (tgt := 333) hx hb dL_law_32 (by omega) (by omega) (by rw [h9]; rfl) (by decide) (lz_case9 C hH hJ hi3 hl kk)
        · exact lv_tableIn (off := 324) (tgt := 356) hx hb dL_law_32 (by omega) (by omega) (by rw [h9]; rfl) (by decide) (lz_case10 C hH hJ hi3 hl kk)
        · exact lv_tableIn (off := 357) (tgt := 389) hx hb dL_law_32 (by omega) (by omega) (by rw [h9]; rfl) (by decide) (lz_case11 C hH hJ hi3 hl kk)
set_option maxHeartbeats 4000000 in
set_option maxRecDepth 100000 in
/-- the law's body -/
theorem whole_start {p : Program} {e : Env} {s : State} {m : MethodId} {below : List Frame} {meth : Method} {c : Code} (l : Launch) {b L : Nat} {xs : Nat → Int32} (hL : L ≤ 192) (C0 : lw_At p s m meth c b L xs) : W p l e room_1 s m #[Value.ref b] below meth c s.heap [] 0 0 (lw_Z below #[Value.ref b] s) (entryFrame m ([Value.ref b] : List Value).toArray 4) := by
  obtain ⟨hx, hb, hr, hml, hown, hts0, hX, hbl, hlocks, hgv⟩ := id C0
  have hts : ∀ w ∈ lw_all, w.before #[Value.ref b] s = true := fun w h => hts0 w (lw_all_tbl h)
  have hA : ∀ q : Nat, s.heap.size ≤ q → (fun q : Nat => s.heap.size ≤ q) q := fun _ h => h
  obtain ⟨c0_, iS0, hKn0⟩ := u_known (C := RX0) (T := TX0) (N := 13) (n := 13) hts in_X0 (hts _ q14)
  obtain ⟨c1_, iS1, hKn1⟩ := u_known (C := RX1) (T := TX1) (N := 2) (n := 2) hts in_X1 (hts _ q153)
  obtain ⟨D, hKc⟩ : ∃ D : va_G, ∀ (k : Nat) (q : vw_C), vwCl[k]? = some q → u_Kn s q.1 q.2.1 q.2.2 (D.1 k) (D.2 k) := by
    refine ⟨(fun k => if k = 0 then c0_ else c1_, fun k => if k = 0 then iS0 else iS1), ?_⟩
    intro k q hq
    match k, hq with
    | 0, hq => cases hq; exact hKn0
    | 1, hq => cases hq; exact hKn1
    | k + 2, hq => simp [vwCl] at hq
  have hS : va_S (fun q : Nat => s.heap.size ≤ q) s.heap s.heap [] := va_S.rf
  have hK : va_K D vwCl [] s := ⟨hKc, fun k q h => by simp at h⟩
  have hP : va_P D vwCl [] s.heap := fun k q h => by simp at h
  have hD : va_D (fun q : Nat => s.heap.size ≤ q) [] := ⟨fun i j p q h => by simp at h, fun k q h => by simp at h⟩
  have hl := lv_entry ([.ref b]) (n := 4) (Nat.le_of_ble_eq_true rfl)
  rw [lg_entry_eq]
  generalize (lg_sl ([.ref b]) ++ List.replicate (4 - (lg_sl ([.ref b])).length) Slot.unset).toArray = ls at hl ⊢
  have hl : lv_has ls 4 [(0, .ref b)] := hl
  have bl0 : ∀ (ci h9 sz : Nat) (fs : List Value), FrameBlind (va_Pc [.ref h9] (fun U => U.heap.size = sz ∧ va_P D vwCl [(h9, .inr (ci, fs))] U.heap ∧ va_K D vwCl [] U ∧ va_D (fun _ => True) [(h9, .inr (ci, fs))])) := fun ci h9 sz fs a U g mk q => by
    obtain ⟨q0, q1, qP, qK, qD⟩ := q
    exact ⟨q0, q1, qP, va_K.moved (u := U) (U := U.calling g mk a) (Vm.Alike.refl U.vm) qK, qD⟩
  refine va_new (ci := 0) (fs := [.null, .null, .null, .null, .null, .null, .null, .null, .null, .null, .null, .null, .null]) (C := RX0) (T := TX0) (N := 13) hx hb hts in_X0 tyX0 tyX0_ok hown (hts _ q13) (hts _ q14) (hts _ q11) hK hP hD hS hA rfl (fun j hj => by rcases (show j = 0 ∨ j = 1 ∨ j = 2 ∨ j = 3 ∨ j = 4 ∨ j = 5 ∨ j = 6 ∨ j = 7 ∨ j = 8 ∨ j = 9 ∨ j = 10 ∨ j = 11 ∨ j = 12 by omega) with rfl | rfl | rfl | rfl | rfl | rfl | rfl | rfl | rfl | rfl | rfl | rfl | rfl <;> rfl) (Nat.le_of_ble_eq_true rfl) (Nat.le_of_ble_eq_true rfl) dL_law_0 (fun h0 H hP hD hS => ?_)
  have hP : va_P D vwCl [(h0, .inr (0, [.null, .null, .null, .null, .null, .null, .null, .null, .null, .null, .null, .null, .null]))] H := hP
  have hD : va_D (fun q : Nat => s.heap.size ≤ q) [(h0, .inr (0, [.null, .null, .null, .null, .null, .null, .null, .null, .null, .null, .null, .null, .null]))] := hD
  refine lv_dup hx hb dL_law_3 rfl ?_
  have hA1 := lz_own hD hS
  refine va_callv (va_runI (As := []) (rest := [.ref h0]) ⟨hx, hb, hml, hown, hts⟩ (wz_init0 l D h0 H.size) (cwI 0 hts (lw_meth q17) rfl rfl rfl (hts _ q11) (hts _ q15) (hts _ q16) rfl (by decide +kernel) ⟨Nat.le_of_ble_eq_true rfl, Nat.le_of_ble_eq_true rfl⟩) ⟨bl0 _ _ _ _, fun U hU hW => ⟨rfl, by rw [hU], by rw [hU]; exact hP, va_K.moved hW.alike hK, hD.weaken (fun _ _ _ _ => trivial)⟩⟩ rfl rfl hl.1 rfl (lv_room (Nat.le_of_ble_eq_true rfl)) dL_law_4 ⟨Nat.le_of_ble_eq_true rfl, Nat.le_of_ble_eq_true rfl⟩) hS (fun q _ h => hA1 q h) hA1 (fun u t H1 locs1 ht hvm hw1 hB hz1 hk1 hS => ?_)
  obtain ⟨r0, ca0⟩ := u
  obtain ⟨hP1, hK0, hD1⟩ := hB
  rw [ht] at hP1
  have hK0 := va_K.moved hvm.symm hK0
  have hD1 := hD1.weaken (B := fun q : Nat => s.heap.size ≤ q) (fun k q _ hq => hA1 q.1 hq)
  clear hP hD hA1 hk1 hw1 ht hvm
  refine lv_astore_n (lv' := [(1, .ref h0), (0, .ref b)]) hx hb dL_law_7 rfl hl (by decide) rfl (fun ls hl => ?_)
  refine va_new (ci := 1) (fs := [.null, .null]) (C := RX1) (T := TX1) (N := 2) hx hb hts in_X1 tyX1 tyX1_ok hown (hts _ q152) (hts _ q153) (hts _ q12) hK hP1 hD1 hS hA rfl (fun j hj => by rcases (show j = 0 ∨ j = 1 by omega) with rfl | rfl <;> rfl) (Nat.le_of_ble_eq_true rfl) (Nat.le_of_ble_eq_true rfl) dL_law_8 (fun h1 H hP hD hS => ?_)
  have hP := lz_Pc hP
  have hD := lz_Dc hD
  have hPl := lz_Pl hP
  have hDl := lz_Dl hD
  refine lv_dup hx hb dL_law_11 rfl ?_
  have hA1 := lz_own hDl hS
  refine va_callv (va_runI (As := []) (rest := [.ref h1]) ⟨hx, hb, hml, hown, hts⟩ (wz_init1 l D h1 H.size) (cwI 0 hts (lw_meth q156) rfl rfl rfl (hts _ q12) (hts _ q154) (hts _ q155) rfl (by decide +kernel) ⟨Nat.le_of_ble_eq_true rfl, Nat.le_of_ble_eq_true rfl⟩) ⟨bl0 _ _ _ _, fun U hU hW => ⟨rfl, by rw [hU], by rw [hU]; exact hPl, va_K.moved hW.alike hK, hDl.weaken (fun _ _ _ _ => trivial)⟩⟩ rfl rfl hl.1 rfl (lv_room (Nat.le_of_ble_eq_true rfl)) dL_law_12 ⟨Nat.le_of_ble_eq_true rfl, Nat.le_of_ble_eq_true rfl⟩) hS (fun q _ h => hA1 q h) hA1 (fun u t H1 locs1 ht hvm hw1 hB hz1 hk1 hS => ?_)
  obtain ⟨r1, ca1⟩ := u
  obtain ⟨hP1, hK1, hD1⟩ := hB
  rw [ht] at hP1
  have hK1 := va_K.moved hvm.symm hK1
  obtain ⟨hP2, hD2⟩ := lz_re hP hD hk1 hP1 hD1 hA1
  have hH : lz_H D h0 r0 ca0 (pz_ini 24) h1 r1 ca1 (pz_inm 24) s H1 locs1 := ⟨lz_Pc hP2, lz_Dc hD2, hS⟩
  have C : lz_C p s m c b L xs D ca0 ca1 := ⟨hx, hb, hml, hown, hts, hK0, hK1, hX, hbl, hL⟩
  refine lv_astore_n (lv' := [(2, .ref h1), (1, .ref h0), (0, .ref b)]) hx hb dL_law_15 rfl hl (by decide) rfl (fun ls hl => ?_)
  refine lv_iconst (v := 0) hx hb dL_law_16 (by decide) ?_
  refine lv_istore_n (lv' := [(3, .int 0), (2, .ref h1), (1, .ref h0), (0, .ref b)]) hx hb dL_law_17 rfl hl (by decide) rfl (fun ls hl => ?_)
  exact lz_loop C hr hlocks L 0 (pz_ini 24) (pz_inm 24) _ _ ls (by omega) (by omega) pz_ini_J hH (lv_sub (l' := [(0, .ref b), (1, .ref h0), (2, .ref h1), (3, .int (nI 0))]) hl [3, 2, 1, 0] rfl)
end
section
set_option maxHeartbeats 4000000 in
theorem lw_walk (l : Launch) (b : Addr) (xs : List Int32) : MetFree l x (headSpec (Jvm.Cond.code x code maxLocals ret :: tables_1) room_1) (lw_P b xs) (fun _ _ _ _ _ => True) lw_Q := by
  refine MetFree.of_bodyS (code := code) (maxLocals := maxLocals) (ret := ret) (by decide) ?_ ?_
  · intro args s m h hn
    obtain ⟨meth, c, h1, h2, h3, h4, h5, h6, -, -⟩ := Cond.code_spec hn (atoms_spec (ws := Jvm.Cond.code x code maxLocals ret :: tables_1) h _ List.mem_cons_self)
    exact ⟨meth, c, h1, h2, h3, h4, h5, h6⟩
  · intro p e s m args below meth c s₁ B hml0 hP _
    obtain ⟨rfl, hx, hbd, hgv⟩ := hP
    obtain ⟨scr, harrAt, hlist, hof, hsmall⟩ := hx
    obtain ⟨hcb, hkn, -, -⟩ := State.arrayAt?_spec harrAt
    have hown : s.vm.findClass R_law = some m.cls := findClass_of_methodNamed B.named
    have hts0 : ∀ c ∈ (Jvm.Cond.code x code maxLocals ret :: tables_1), c.before #[Value.ref b] s = true := atoms_spec (ws := Jvm.Cond.code x code maxLocals ret :: tables_1) B.pre
    have hts : ∀ w ∈ lw_tbl, w.before #[Value.ref b] s = true := k2_hts_sels lw_privs (fun w hw => hts0 w (List.mem_cons_of_mem _ hw)) lw_privs_ok
    have hml : c.maxLocals = 4 := B.maxLocals_eq (hts0 _ List.mem_cons_self)
    have X₀ : Stand p l e room_1 s m #[Value.ref b] below meth c s₁ [] 0 0 := Stand.of_body B
    have hh0 : s₁.heap = s.heap := by rw [B.state]; rfl
    have hsz : scr.slots.size = xs.length := by rw [← Array.length_toList, hlist, List.length_map]
    have hval : ∀ j : Nat, j < xs.length → scr.slots[j]? = some (.int (xs.getD j 0)) := fun j hj => by
      rw [← Array.getElem?_toList, hlist]
      simp [hj]
    have hbl : b < s.heap.size := (Array.getElem?_eq_some_iff.mp hcb).1
    have hX : va_X b xs.length (fun j => xs.getD j 0) s s.heap := ⟨scr, hcb, hof, hkn, hsz, hval⟩
    have K : W p l e room_1 s m #[Value.ref b] below meth c s₁.heap [] 0 0 (lw_Z below #[Value.ref b] s) (entryFrame m ([Value.ref b] : List Value).toArray 4) := by
      rw [hh0]
      exact whole_start l hbd ⟨B.exec, B.bytes, B.returns, hml, hown, hts, hX, hbl, B.notSynchronized, hgv⟩
    obtain ⟨t, a1, o, b1, b2, b3⟩ := K s₁ rfl X₀
    exact ⟨t, o, a1, b1, b2, b3⟩
theorem lw_pre_spec {args : Array Value} {s : State} (h : (Jvm.Cond.and given_1 narrow_1).before args s = true) (hr : rest_1_c.before args s = true) : ∃ (b : Addr) (xs : List Int32), lw_P b xs args s := by
  have hs := flat_of_before _ h
  have hq := flat_of_before _ hr
  have hc : (Cond.count 1).before args s = true := hs _ (by decide +kernel)
  have harr : (Cond.arrayOf (.arg 0) .int).before args s = true := hs _ (by decide +kernel)
  have hle : (Cond.le (.length (.arg 0)) (.int 192)).before args s = true := hs _ (by decide +kernel)
  have hlen : (Cond.isInt (.length (.arg 0))).before args s = true := hq _ (by decide +kernel)
  have hall : (Cond.all (.arg 0) (.isInt (.elem (.arg 0) (.index 0)))).before args s = true := hq _ (by decide +kernel)
  obtain ⟨b, xs, hb, hx⟩ := State.ints_of_pre rfl harr hlen hall
  have hsm : xs.length < 2 ^ 31 := hx.choose_spec.2.2.2
  have hev : (Term.length (.arg 0)).eval args s none [] s = some (.int xs.length.toInt32) := hx.length_eval hb
  have hv := Cond.le_ints hev (show (Term.int 192).eval args s none [] s = some (.int 192) from rfl)
  have hd : xs.length.toInt32 ≤ 192 := by
    simpa [Cond.before, Cond.holds, hv] using hle
  have hN : xs.length ≤ 192 := (Int32.ofNat_le_ofNat hsm (by decide)).mp (show Int32.ofNat xs.length ≤ Int32.ofNat 192 from hd)
  exact ⟨b, xs, Cond.one_arg hc (show args[0]? = some (.ref b) from hb), hx, hN, h⟩
theorem lw_comes (l : Launch) : Comes l x (Jvm.Cond.code x code maxLocals ret :: tables_1) room_1 (fun tb e args s => Calls_1 tb e args s ∧ rest_1 tb e args s ∧ Pre_1 tb e args s)
    (fun _ _ args s o t => lw_Q args s o t) := by
  intro p e ha hc hk s m args below hf hfit hheap happ hpre
  obtain ⟨b, xs, hP⟩ := lw_pre_spec hpre.2.2 hpre.2.1
  obtain ⟨k, o, h1, h2, h3, hQ⟩ := lw_walk l b xs p e ha hc hk s m args below hf ((Spec.applies_iff_loose hf).mp happ).1 hP trivial
  exact ⟨k, o, h1, h2, h3, hQ⟩
theorem lw_frame {s t : State} {o : Outcome} {args : Array Value} (h : Framed s o t [] 600000 7290000) :
    Framed s o t (fieldLocs frame_1_writes args s ++ arrayLocs frame_1_arrays args s ++ staticLocs frame_1_statics s) 600000 7290000 := h
theorem lw_limb (L : Cond) (hL : ∀ (args : Array Value) (s t : State), L.after args s (.returned (some (.int 1))) t = true) :
    ArmFor flags0 classFile x code maxLocals ret World_1 tables_1 room_1 Calls_1 rest_1 Pre_1
      (fun tb e a s o t => postC L tb e a s o t ∧ Framed s o t (fieldLocs frame_1_writes a s ++ arrayLocs frame_1_arrays a s ++ staticLocs frame_1_statics s) 600000 7290000) := by
  intro l _ _ _ p e ha hc hk s m args below hf hfit hheap happ hpre
  obtain ⟨k, o, h1, h2, h3, rfl, hF⟩ := lw_comes l p e ha hc hk s m args below hf hfit hheap happ hpre
  exact ⟨k, _, h1, h2, h3, hL args s _, lw_frame hF⟩
theorem i_vc : Claimed_1_1 ∧ Claimed_1_2 := ⟨lw_limb limb_1_1 (fun args s t => by simp [limb_1_1, Cond.after, Cond.holds, Cond.value]), lw_limb limb_1_2 (fun args s t => Cond.after_iff.mpr (by
  first | (rw [show limb_1_2 = Cond.eq .result (.int 1) from rfl, Cond.eq_ints (x := 1) (y := 1) rfl rfl]; simp; done) | (simp [limb_1_2, Cond.value, Term.eval]; done)))⟩
end
