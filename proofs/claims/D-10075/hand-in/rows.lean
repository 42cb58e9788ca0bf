section
/-! point updates; the log as a function from numbers to entries (sort, byWhom, where, before, after, link) -/
def ae_up {α : Type} (f : Nat → α) (k : Nat) (v : α) : Nat → α := fun j => if j = k then v else f j
theorem ae_us {α : Type} {f : Nat → α} {k : Nat} {v : α} : ae_up f k v k = v := by
  unfold ae_up
  rw [if_pos rfl]
theorem ae_un {α : Type} {f : Nat → α} {k j : Nat} {v : α} (h : j ≠ k) : ae_up f k v j = f j := by
  unfold ae_up
  rw [if_neg h]
abbrev ae_E : Type := Nat × Nat × Nat × Nat × Nat × Nat
abbrev ae_li (g : Nat → ae_E) (n : Nat) : Nat := (g n).2.2.2.2.2
def ae_on (g : Nat → ae_E) (n c : Nat) : Prop := (g n).1 < 2 ∧ (g n).2.2.1 = c
def ae_ex (g : Nat → ae_E) (c k s : Nat) : Prop := ∃ n, k < n ∧ n ≤ s ∧ ae_on g n c
/-- the value of cell c behind the entries 1..s -/
def ae_R (g : Nat → ae_E) (Z : Nat → Nat) : Nat → Nat → Nat
  | 0 => Z
  | s + 1 => fun c => if (g (s + 1)).1 < 2 ∧ (g (s + 1)).2.2.1 = c then (g (s + 1)).2.2.2.2.1 else ae_R g Z s c
theorem ae_R0 {g : Nat → ae_E} {Z : Nat → Nat} {c : Nat} : ae_R g Z 0 c = Z c := rfl
theorem ae_Rt {g : Nat → ae_E} {Z : Nat → Nat} {s c : Nat} (h : ae_on g (s + 1) c) : ae_R g Z (s + 1) c = (g (s + 1)).2.2.2.2.1 := by
  show (if (g (s + 1)).1 < 2 ∧ (g (s + 1)).2.2.1 = c then (g (s + 1)).2.2.2.2.1 else ae_R g Z s c) = _
  exact if_pos h
theorem ae_Rf {g : Nat → ae_E} {Z : Nat → Nat} {s c : Nat} (h : ¬ ae_on g (s + 1) c) : ae_R g Z (s + 1) c = ae_R g Z s c := by
  show (if (g (s + 1)).1 < 2 ∧ (g (s + 1)).2.2.1 = c then (g (s + 1)).2.2.2.2.1 else ae_R g Z s c) = _
  exact if_neg h
theorem ae_Rskip {g : Nat → ae_E} {Z : Nat → Nat} {c a : Nat} : ∀ d, (∀ n, a < n → n ≤ a + d → ¬ ae_on g n c) → ae_R g Z (a + d) c = ae_R g Z a c
  | 0, _ => rfl
  | d + 1, h => by
    rw [show a + (d + 1) = (a + d) + 1 by omega, ae_Rf (h (a + d + 1) (by omega) (by omega))]
    exact ae_Rskip d (fun n h1 h2 => h n h1 (by omega))
theorem ae_Rsk {g : Nat → ae_E} {Z : Nat → Nat} {c a s : Nat} (ha : a ≤ s) (h : ¬ ae_ex g c a s) : ae_R g Z s c = ae_R g Z a c := by
  have e := ae_Rskip (g := g) (Z := Z) (c := c) (a := a) (s - a) (fun n h1 h2 h3 => h ⟨n, h1, by omega, h3⟩)
  rw [show a + (s - a) = s by omega] at e
  exact e
theorem ae_Rcong {g g' : Nat → ae_E} {Z : Nat → Nat} {c : Nat} : ∀ s, (∀ n, 0 < n → n ≤ s → g' n = g n) → ae_R g' Z s c = ae_R g Z s c
  | 0, _ => rfl
  | s + 1, h => by
    have e := h (s + 1) (by omega) (by omega)
    show (if (g' (s + 1)).1 < 2 ∧ (g' (s + 1)).2.2.1 = c then (g' (s + 1)).2.2.2.2.1 else ae_R g' Z s c) = (if (g (s + 1)).1 < 2 ∧ (g (s + 1)).2.2.1 = c then (g (s + 1)).2.2.2.2.1 else ae_R g Z s c)
    rw [e, ae_Rcong s (fun n h1 h2 => h n h1 (by omega))]
/-- t's latest entry at s, 0 if it has ended or has none -/
def ae_LL (g : Nat → ae_E) : Nat → Nat → Nat
  | 0 => fun _ => 0
  | s + 1 => fun t => if (g (s + 1)).2.1 = t then (if (g (s + 1)).1 < 2 then s + 1 else 0) else ae_LL g s t
theorem ae_LL0 {g : Nat → ae_E} {t : Nat} : ae_LL g 0 t = 0 := rfl
theorem ae_LLs {g : Nat → ae_E} {s t : Nat} : ae_LL g (s + 1) t = if (g (s + 1)).2.1 = t then (if (g (s + 1)).1 < 2 then s + 1 else 0) else ae_LL g s t := rfl
theorem ae_LLcong {g g' : Nat → ae_E} {t : Nat} : ∀ s, (∀ n, 0 < n → n ≤ s → g' n = g n) → ae_LL g' s t = ae_LL g s t
  | 0, _ => rfl
  | s + 1, h => by
    rw [ae_LLs, ae_LLs, h (s + 1) (by omega) (by omega), ae_LLcong s (fun n h1 h2 => h n h1 (by omega))]
theorem ae_LLle {g : Nat → ae_E} {t : Nat} : ∀ s, ae_LL g s t ≤ s
  | 0 => Nat.le_refl 0
  | s + 1 => by
    have := ae_LLle (g := g) (t := t) s
    rw [ae_LLs]
    split
    · split
      · omega
      · omega
    · omega
/-- what a latest entry is -/
theorem ae_LLspec {g : Nat → ae_E} {t : Nat} : ∀ s, ae_LL g s t ≠ 0 → (g (ae_LL g s t)).2.1 = t ∧ (g (ae_LL g s t)).1 < 2 ∧ ∀ m, ae_LL g s t < m → m ≤ s → (g m).2.1 ≠ t
  | 0, h => absurd rfl h
  | s + 1, h => by
    rw [ae_LLs] at h ⊢
    by_cases e : (g (s + 1)).2.1 = t
    · rw [if_pos e] at h ⊢
      by_cases e2 : (g (s + 1)).1 < 2
      · rw [if_pos e2]
        exact ⟨e, e2, fun m h1 h2 => absurd h1 (by omega)⟩
      · rw [if_neg e2] at h
        exact absurd rfl h
    · rw [if_neg e] at h ⊢
      have i := ae_LLspec s h
      refine ⟨i.1, i.2.1, fun m h1 h2 => ?_⟩
      by_cases e3 : m = s + 1
      · rw [e3]
        exact e
      · exact i.2.2 m h1 (by omega)
theorem ae_LLnone {g : Nat → ae_E} {t : Nat} : ∀ s, ae_LL g s t = 0 → ∀ n, 0 < n → n ≤ s → (g n).2.1 = t → ∃ m, n ≤ m ∧ m ≤ s ∧ (g m).2.1 = t ∧ ¬ (g m).1 < 2
  | 0, _, n, h0, h1, _ => absurd h0 (by omega)
  | s + 1, h, n, h0, h1, h2 => by
    rw [ae_LLs] at h
    by_cases e : (g (s + 1)).2.1 = t
    · rw [if_pos e] at h
      by_cases e2 : (g (s + 1)).1 < 2
      · rw [if_pos e2] at h
        omega
      · exact ⟨s + 1, h1, by omega, e, e2⟩
    · rw [if_neg e] at h
      by_cases e3 : n = s + 1
      · rw [e3] at h2
        exact absurd h2 e
      · obtain ⟨m, m1, m2, m3, m4⟩ := ae_LLnone s h n h0 (by omega) h2
        exact ⟨m, m1, by omega, m3, m4⟩
/-- how many entries t's present run has -/
def ae_CN (g : Nat → ae_E) : Nat → Nat → Nat
  | 0 => fun _ => 0
  | s + 1 => fun t => if (g (s + 1)).2.1 = t then (if (g (s + 1)).1 < 2 then ae_CN g s t + 1 else 0) else ae_CN g s t
theorem ae_CN0 {g : Nat → ae_E} {t : Nat} : ae_CN g 0 t = 0 := rfl
theorem ae_CNs {g : Nat → ae_E} {s t : Nat} : ae_CN g (s + 1) t = if (g (s + 1)).2.1 = t then (if (g (s + 1)).1 < 2 then ae_CN g s t + 1 else 0) else ae_CN g s t := rfl
theorem ae_CNcong {g g' : Nat → ae_E} {t : Nat} : ∀ s, (∀ n, 0 < n → n ≤ s → g' n = g n) → ae_CN g' s t = ae_CN g s t
  | 0, _ => rfl
  | s + 1, h => by
    rw [ae_CNs, ae_CNs, h (s + 1) (by omega) (by omega), ae_CNcong s (fun n h1 h2 => h n h1 (by omega))]
/-- the live updates from entry n on, the latest first, as (cell, value before) -/
def ae_ch (g : Nat → ae_E) (n : Nat) : List (Nat × Nat) :=
  if h : n ≤ (g n).2.2.2.2.2 then []
  else if (g n).1 = 0 then ((g n).2.2.1, (g n).2.2.2.1) :: ae_ch g (g n).2.2.2.2.2 else ae_ch g (g n).2.2.2.2.2
termination_by n
decreasing_by all_goals omega
theorem ae_ch0 {g : Nat → ae_E} : ae_ch g 0 = [] := by
  rw [ae_ch, dif_pos (Nat.zero_le _)]
theorem ae_chu {g : Nat → ae_E} {n : Nat} (h : (g n).2.2.2.2.2 < n) (h0 : (g n).1 = 0) : ae_ch g n = ((g n).2.2.1, (g n).2.2.2.1) :: ae_ch g (g n).2.2.2.2.2 := by
  rw [ae_ch, dif_neg (by omega), if_pos h0]
theorem ae_chc {g : Nat → ae_E} {n : Nat} (h : (g n).2.2.2.2.2 < n) (h0 : (g n).1 ≠ 0) : ae_ch g n = ae_ch g (g n).2.2.2.2.2 := by
  rw [ae_ch, dif_neg (by omega), if_neg h0]
theorem ae_chcong {g g' : Nat → ae_E} : ∀ n, (∀ m, 0 < m → m ≤ n → g' m = g m) → ae_ch g' n = ae_ch g n := by
  intro n
  induction n using Nat.strongRecOn with
  | ind n ih =>
    intro h
    by_cases h0 : n = 0
    · rw [h0, ae_ch0, ae_ch0]
    · have e := h n (by omega) (Nat.le_refl n)
      by_cases hl : (g n).2.2.2.2.2 < n
      · have i := ih _ hl (fun m h1 h2 => h m h1 (by omega))
        by_cases hs : (g n).1 = 0
        · rw [ae_chu (g := g) hl hs, ae_chu (g := g') (by rw [e]; exact hl) (by rw [e]; exact hs), e, i]
        · rw [ae_chc (g := g) hl hs, ae_chc (g := g') (by rw [e]; exact hl) (by rw [e]; exact hs), e, i]
      · have a1 : ae_ch g' n = [] := by rw [ae_ch, dif_pos (by rw [e]; omega)]
        have a2 : ae_ch g n = [] := by rw [ae_ch, dif_pos (by omega)]
        rw [a1, a2]
/-- the links lead from a to b -/
def ae_rc (g : Nat → ae_E) (a b : Nat) : Prop :=
  if h : a ≤ (g a).2.2.2.2.2 then a = b
  else a = b ∨ ae_rc g (g a).2.2.2.2.2 b
termination_by a
decreasing_by all_goals omega
theorem ae_rcr {g : Nat → ae_E} {a : Nat} : ae_rc g a a := by
  rw [ae_rc]
  split
  · rfl
  · exact Or.inl rfl
theorem ae_rcs {g : Nat → ae_E} {a b : Nat} (h : (g a).2.2.2.2.2 < a) (h2 : ae_rc g (g a).2.2.2.2.2 b) : ae_rc g a b := by
  rw [ae_rc, dif_neg (by omega)]
  exact Or.inr h2
theorem ae_rci {g : Nat → ae_E} {a b : Nat} (h : ae_rc g a b) : a = b ∨ ((g a).2.2.2.2.2 < a ∧ ae_rc g (g a).2.2.2.2.2 b) := by
  rw [ae_rc] at h
  by_cases e : a ≤ (g a).2.2.2.2.2
  · rw [dif_pos e] at h
    exact Or.inl h
  · rw [dif_neg e] at h
    cases h with
    | inl h => exact Or.inl h
    | inr h => exact Or.inr ⟨by omega, h⟩
theorem ae_rcle {g : Nat → ae_E} {b : Nat} : ∀ a, ae_rc g a b → b ≤ a := by
  intro a
  induction a using Nat.strongRecOn with
  | ind a ih =>
    intro h
    cases ae_rci h with
    | inl e => omega
    | inr e =>
      have := ih _ e.1 e.2
      omega
theorem ae_rctr {g : Nat → ae_E} {b c : Nat} (h2 : ae_rc g b c) : ∀ a, ae_rc g a b → ae_rc g a c := by
  intro a
  induction a using Nat.strongRecOn with
  | ind a ih =>
    intro h
    cases ae_rci h with
    | inl e => rw [e]; exact h2
    | inr e => exact ae_rcs e.1 (ih _ e.1 e.2)
theorem ae_rccong {g g' : Nat → ae_E} {b : Nat} : ∀ a, (∀ m, 0 < m → m ≤ a → g' m = g m) → ae_rc g a b → ae_rc g' a b := by
  intro a
  induction a using Nat.strongRecOn with
  | ind a ih =>
    intro h h2
    cases ae_rci h2 with
    | inl e => rw [e]; exact ae_rcr
    | inr e =>
      have e' := h a (by omega) (Nat.le_refl a)
      refine ae_rcs (by rw [e']; exact e.1) ?_
      rw [e']
      exact ih _ e.1 (fun m h1 h2 => h m h1 (by omega)) e.2
/-- entries are in their ranges -/
def ae_VL (g : Nat → ae_E) (le : Nat) : Prop := ∀ n, 0 < n → n ≤ le → (g n).1 < 4 ∧ (g n).2.1 < 3 ∧ (g n).2.2.1 < 16 ∧ (g n).2.2.2.2.2 < n
theorem ae_rc0 {g : Nat → ae_E} {le : Nat} (hv : ae_VL g le) : ∀ a, a ≤ le → ae_rc g a 0 := by
  intro a
  induction a using Nat.strongRecOn with
  | ind a ih =>
    intro h
    by_cases e : a = 0
    · rw [e]; exact ae_rcr
    · have v := (hv a (by omega) h).2.2.2
      exact ae_rcs v (ih _ v (by omega))
theorem ae_VLapp {g : Nat → ae_E} {le : Nat} {e : ae_E} (hv : ae_VL g le) (h1 : e.1 < 4) (h2 : e.2.1 < 3) (h3 : e.2.2.1 < 16) (h4 : e.2.2.2.2.2 < le + 1) : ae_VL (ae_up g (le + 1) e) (le + 1) := by
  intro n h0 hn
  by_cases z : n = le + 1
  · rw [z, ae_us]
    exact ⟨h1, h2, h3, h4⟩
  · rw [ae_un z]
    exact hv n h0 (by omega)
/-- taking back a list of (cell, value before) -/
def ae_ud (v : Nat → Nat) : List (Nat × Nat) → Nat → Nat
  | [] => v
  | e :: l => ae_ud (ae_up v e.1 e.2) l
theorem ae_udc {c : Nat} : ∀ (l : List (Nat × Nat)) (v w : Nat → Nat), v c = w c → ae_ud v l c = ae_ud w l c
  | [], _, _, h => h
  | e :: l, v, w, h => by
    refine ae_udc l (ae_up v e.1 e.2) (ae_up w e.1 e.2) ?_
    by_cases z : c = e.1
    · rw [z, ae_us, ae_us]
    · rw [ae_un z, ae_un z, h]
theorem ae_udo {c : Nat} : ∀ (l : List (Nat × Nat)) (v : Nat → Nat), (∀ e, e ∈ l → e.1 ≠ c) → ae_ud v l c = v c
  | [], _, _ => rfl
  | e :: l, v, h => by
    show ae_ud (ae_up v e.1 e.2) l c = v c
    rw [ae_udo l _ (fun x hx => h x (List.mem_cons_of_mem _ hx)), ae_un (fun z => h e List.mem_cons_self z.symm)]
theorem ae_udi {c : Nat} : ∀ (l : List (Nat × Nat)) (v w : Nat → Nat), (∃ e, e ∈ l ∧ e.1 = c) → ae_ud v l c = ae_ud w l c
  | [], _, _, h => by
    obtain ⟨e, he, _⟩ := h
    exact absurd he List.not_mem_nil
  | e :: l, v, w, h => by
    show ae_ud (ae_up v e.1 e.2) l c = ae_ud (ae_up w e.1 e.2) l c
    by_cases z : c = e.1
    · exact ae_udc l _ _ (by rw [z, ae_us, ae_us])
    · refine ae_udi l _ _ ?_
      obtain ⟨x, hx, hc⟩ := h
      cases List.mem_cons.mp hx with
      | inl q => rw [q] at hc; exact absurd hc.symm z
      | inr q => exact ⟨x, q, hc⟩
theorem ae_uda : ∀ (l k : List (Nat × Nat)) (v : Nat → Nat), ae_ud v (l ++ k) = ae_ud (ae_ud v l) k
  | [], _, _ => rfl
  | e :: l, k, v => ae_uda l k (ae_up v e.1 e.2)
/-- three chains taken back, one behind another -/
def ae_W3 (r : Nat → Nat) (L : Nat → List (Nat × Nat)) : Nat → Nat := ae_ud (ae_ud (ae_ud r (L 0)) (L 1)) (L 2)
theorem ae_W3c {r r' : Nat → Nat} {L L' : Nat → List (Nat × Nat)} {d : Nat} (hr : r' d = r d) (hL : ∀ t, t < 3 → L' t = L t) : ae_W3 r' L' d = ae_W3 r L d := by
  unfold ae_W3
  rw [hL 0 (by omega), hL 1 (by omega), hL 2 (by omega)]
  exact ae_udc _ _ _ (ae_udc _ _ _ (ae_udc _ _ _ hr))
theorem ae_W3e {r r' : Nat → Nat} {L L' : Nat → List (Nat × Nat)} {c t : Nat} (ht : t < 3) (hL : ∀ u, u < 3 → u ≠ t → L' u = L u) (ho : ∀ u, u < t → ∀ e, e ∈ L u → e.1 ≠ c) (hr : ∀ d, d ≠ c → r' d = r d)
    (core : ∀ v w : Nat → Nat, (∀ d, d ≠ c → v d = w d) → v c = r' c → w c = r c → ∀ d, ae_ud v (L' t) d = ae_ud w (L t) d) (d : Nat) : ae_W3 r' L' d = ae_W3 r L d := by
  have ht3 : t = 0 ∨ t = 1 ∨ t = 2 := by omega
  unfold ae_W3
  rcases ht3 with rfl | rfl | rfl
  · rw [hL 1 (by omega) (by omega), hL 2 (by omega) (by omega)]
    exact ae_udc _ _ _ (ae_udc _ _ _ (core r' r hr rfl rfl d))
  · rw [hL 0 (by omega) (by omega), hL 2 (by omega) (by omega)]
    exact ae_udc _ _ _ (core _ _ (fun d hd => ae_udc _ _ _ (hr d hd)) (ae_udo _ _ (ho 0 (by omega))) (ae_udo _ _ (ho 0 (by omega))) d)
  · rw [hL 0 (by omega) (by omega), hL 1 (by omega) (by omega)]
    refine core _ _ (fun d hd => ae_udc _ _ _ (ae_udc _ _ _ (hr d hd))) ?_ ?_ d
    · rw [ae_udo _ _ (ho 1 (by omega)), ae_udo _ _ (ho 0 (by omega))]
    · rw [ae_udo _ _ (ho 1 (by omega)), ae_udo _ _ (ho 0 (by omega))]
/-- a cell that no chain touches -/
theorem ae_W3o {r : Nat → Nat} {L : Nat → List (Nat × Nat)} {c : Nat} (ho : ∀ u, u < 3 → ∀ e, e ∈ L u → e.1 ≠ c) : ae_W3 r L c = r c := by
  unfold ae_W3
  rw [ae_udo _ _ (ho 2 (by omega)), ae_udo _ _ (ho 1 (by omega)), ae_udo _ _ (ho 0 (by omega))]
/-- a cell that at most chain t touches -/
theorem ae_W3t {r : Nat → Nat} {L : Nat → List (Nat × Nat)} {c t : Nat} (ht : t < 3) (ho : ∀ u, u < 3 → u ≠ t → ∀ e, e ∈ L u → e.1 ≠ c) : ae_W3 r L c = ae_ud r (L t) c := by
  have ht3 : t = 0 ∨ t = 1 ∨ t = 2 := by omega
  unfold ae_W3
  rcases ht3 with rfl | rfl | rfl
  · rw [ae_udo _ _ (ho 2 (by omega) (by omega)), ae_udo _ _ (ho 1 (by omega) (by omega))]
  · rw [ae_udo _ _ (ho 2 (by omega) (by omega))]
    exact ae_udc _ _ _ (ae_udo _ _ (ho 0 (by omega) (by omega)))
  · refine ae_udc _ _ _ ?_
    rw [ae_udo _ _ (ho 1 (by omega) (by omega)), ae_udo _ _ (ho 0 (by omega) (by omega))]
def ae_W (g : Nat → ae_E) (Z : Nat → Nat) (s : Nat) : Nat → Nat := ae_W3 (ae_R g Z s) (fun t => ae_ch g (ae_LL g s t))
def ae_ph (g : Nat → ae_E) (s t : Nat) : Nat := (ae_ch g (ae_LL g s t)).length + (if ae_LL g s t = 0 then 0 else 1)
def ae_F (g : Nat → ae_E) (s : Nat) : Nat := s + (ae_ph g s 0 + ae_ph g s 1 + ae_ph g s 2)
theorem ae_CLcong {g g' : Nat → ae_E} {s t : Nat} (h : ∀ n, 0 < n → n ≤ s → g' n = g n) : ae_ch g' (ae_LL g' s t) = ae_ch g (ae_LL g s t) := by
  rw [ae_LLcong s h]
  exact ae_chcong _ (fun m h1 h2 => h m h1 (Nat.le_trans h2 (ae_LLle s)))
theorem ae_Wcong {g g' : Nat → ae_E} {Z : Nat → Nat} {s d : Nat} (h : ∀ n, 0 < n → n ≤ s → g' n = g n) : ae_W g' Z s d = ae_W g Z s d :=
  ae_W3c (ae_Rcong s h) (fun _ _ => ae_CLcong h)
theorem ae_phcong {g g' : Nat → ae_E} {s t : Nat} (h : ∀ n, 0 < n → n ≤ s → g' n = g n) : ae_ph g' s t = ae_ph g s t := by
  unfold ae_ph
  rw [ae_CLcong h, ae_LLcong s h]
theorem ae_Fcong {g g' : Nat → ae_E} {s : Nat} (h : ∀ n, 0 < n → n ≤ s → g' n = g n) : ae_F g' s = ae_F g s := by
  unfold ae_F
  rw [ae_phcong h, ae_phcong h, ae_phcong h]
theorem ae_old {g : Nat → ae_E} {s : Nat} {e : ae_E} : ∀ n, 0 < n → n ≤ s → ae_up g (s + 1) e n = g n := fun n _ h => ae_un (by omega)
/-- one more entry: latest entries and chains -/
theorem ae_LLapp_o {g : Nat → ae_E} {s t : Nat} {e : ae_E} (h : e.2.1 ≠ t) : ae_LL (ae_up g (s + 1) e) (s + 1) t = ae_LL g s t := by
  rw [ae_LLs, ae_us, if_neg h, ae_LLcong s ae_old]
theorem ae_LLapp_d {g : Nat → ae_E} {s t : Nat} {e : ae_E} (h : e.2.1 = t) (h2 : e.1 < 2) : ae_LL (ae_up g (s + 1) e) (s + 1) t = s + 1 := by
  rw [ae_LLs, ae_us, if_pos h, if_pos h2]
theorem ae_LLapp_e {g : Nat → ae_E} {s t : Nat} {e : ae_E} (h : e.2.1 = t) (h2 : ¬ e.1 < 2) : ae_LL (ae_up g (s + 1) e) (s + 1) t = 0 := by
  rw [ae_LLs, ae_us, if_pos h, if_neg h2]
theorem ae_chapp {g : Nat → ae_E} {s n : Nat} {e : ae_E} (h : n ≤ s) : ae_ch (ae_up g (s + 1) e) n = ae_ch g n :=
  ae_chcong n (fun m h1 h2 => ae_old m h1 (by omega))
theorem ae_CLapp_o {g : Nat → ae_E} {s t : Nat} {e : ae_E} (h : e.2.1 ≠ t) : ae_ch (ae_up g (s + 1) e) (ae_LL (ae_up g (s + 1) e) (s + 1) t) = ae_ch g (ae_LL g s t) := by
  rw [ae_LLapp_o h, ae_chapp (ae_LLle s)]
theorem ae_chapp_u {g : Nat → ae_E} {s : Nat} {e : ae_E} (h0 : e.1 = 0) (hl : e.2.2.2.2.2 ≤ s) : ae_ch (ae_up g (s + 1) e) (s + 1) = (e.2.2.1, e.2.2.2.1) :: ae_ch g e.2.2.2.2.2 := by
  rw [ae_chu (by rw [ae_us]; omega) (by rw [ae_us]; exact h0), ae_us, ae_chapp hl]
theorem ae_chapp_c {g : Nat → ae_E} {s : Nat} {e : ae_E} (h0 : e.1 ≠ 0) (hl : e.2.2.2.2.2 ≤ s) : ae_ch (ae_up g (s + 1) e) (s + 1) = ae_ch g e.2.2.2.2.2 := by
  rw [ae_chc (by rw [ae_us]; omega) (by rw [ae_us]; exact h0), ae_us, ae_chapp hl]
theorem ae_Rapp_d {g : Nat → ae_E} {Z : Nat → Nat} {s d : Nat} {e : ae_E} (h : e.1 < 2) : ae_R (ae_up g (s + 1) e) Z (s + 1) d = ae_up (ae_R g Z s) e.2.2.1 e.2.2.2.2.1 d := by
  by_cases z : d = e.2.2.1
  · rw [z, ae_us, ae_Rt ⟨by rw [ae_us]; exact h, by rw [ae_us]⟩, ae_us]
  · rw [ae_un z, ae_Rf (fun q => z (by have := q.2; rw [ae_us] at this; exact this.symm)), ae_Rcong s ae_old]
theorem ae_Rapp_e {g : Nat → ae_E} {Z : Nat → Nat} {s d : Nat} {e : ae_E} (h : ¬ e.1 < 2) : ae_R (ae_up g (s + 1) e) Z (s + 1) d = ae_R g Z s d := by
  rw [ae_Rf (fun q => h (by have := q.1; rw [ae_us] at this; exact this)), ae_Rcong s ae_old]
/-- an update: nothing changes for one who takes all back -/
theorem ae_Wupd {g : Nat → ae_E} {Z : Nat → Nat} {s t c v : Nat} (ht : t < 3) (ho : ∀ u, u < 3 → u ≠ t → ∀ e, e ∈ ae_ch g (ae_LL g s u) → e.1 ≠ c) (d : Nat) :
    ae_W (ae_up g (s + 1) (0, t, c, ae_R g Z s c, v, ae_LL g s t)) Z (s + 1) d = ae_W g Z s d := by
  unfold ae_W
  refine ae_W3e (c := c) ht (fun u _ hu => ae_CLapp_o (fun z => hu z.symm)) (fun u hu => ho u (by omega) (by omega)) (fun d hd => ?_) (fun x w hxw hx hw d => ?_) d
  · rw [ae_Rapp_d (by show (0 : Nat) < 2; omega), ae_un hd]
  · rw [ae_LLapp_d rfl (by show (0 : Nat) < 2; omega), ae_chapp_u rfl (ae_LLle s)]
    show ae_ud (ae_up x c (ae_R g Z s c)) (ae_ch g (ae_LL g s t)) d = _
    refine ae_udc _ _ _ ?_
    by_cases z : d = c
    · rw [z, ae_us, hw]
    · rw [ae_un z, hxw d z]
/-- one update taken back: nothing changes for one who takes all back -/
theorem ae_Wclr {g : Nat → ae_E} {Z : Nat → Nat} {s t n : Nat} (ht : t < 3) (hn : n ≤ s) (h0 : (g n).1 = 0) (hl : (g n).2.2.2.2.2 < n) (hc : ae_ch g (ae_LL g s t) = ae_ch g n)
    (ho : ∀ u, u < t → ∀ e, e ∈ ae_ch g (ae_LL g s u) → e.1 ≠ (g n).2.2.1) (d : Nat) :
    ae_W (ae_up g (s + 1) (1, t, (g n).2.2.1, 0, (g n).2.2.2.1, (g n).2.2.2.2.2)) Z (s + 1) d = ae_W g Z s d := by
  unfold ae_W
  refine ae_W3e (c := (g n).2.2.1) ht (fun u _ hu => ae_CLapp_o (fun z => hu z.symm)) ho (fun d hd => ?_) (fun x w hxw hx hw d => ?_) d
  · rw [ae_Rapp_d (by show (1 : Nat) < 2; omega), ae_un hd]
  · rw [ae_LLapp_d rfl (by show (1 : Nat) < 2; omega), ae_chapp_c (by show (1 : Nat) ≠ 0; omega) (by show (g n).2.2.2.2.2 ≤ s; omega), hc, ae_chu hl h0]
    show ae_ud x (ae_ch g (g n).2.2.2.2.2) d = ae_ud (ae_up w (g n).2.2.1 (g n).2.2.2.1) (ae_ch g (g n).2.2.2.2.2) d
    refine ae_udc _ _ _ ?_
    by_cases z : d = (g n).2.2.1
    · rw [z, ae_us, hx, ae_Rapp_d (by show (1 : Nat) < 2; omega), ae_us]
    · rw [ae_un z, hxw d z]
/-- an end whose chain is used up -/
theorem ae_Wend {g : Nat → ae_E} {Z : Nat → Nat} {s t : Nat} {e : ae_E} (he : ¬ e.1 < 2) (het : e.2.1 = t) (hc : ae_ch g (ae_LL g s t) = []) (d : Nat) : ae_W (ae_up g (s + 1) e) Z (s + 1) d = ae_W g Z s d := by
  unfold ae_W
  refine ae_W3c (ae_Rapp_e he) (fun u _ => ?_)
  by_cases z : u = t
  · rw [z, hc, ae_LLapp_e het he, ae_ch0]
  · exact ae_CLapp_o (fun q => z (q.symm.trans het))
/-- the room that is wanted -/
theorem ae_phapp_o {g : Nat → ae_E} {s t : Nat} {e : ae_E} (h : e.2.1 ≠ t) : ae_ph (ae_up g (s + 1) e) (s + 1) t = ae_ph g s t := by
  unfold ae_ph
  rw [ae_CLapp_o h, ae_LLapp_o h]
theorem ae_Fapp {g : Nat → ae_E} {s t : Nat} {e : ae_E} (ht : t < 3) (het : e.2.1 = t) (h : ae_ph (ae_up g (s + 1) e) (s + 1) t + 1 ≤ ae_ph g s t) : ae_F (ae_up g (s + 1) e) (s + 1) ≤ ae_F g s := by
  have ht3 : t = 0 ∨ t = 1 ∨ t = 2 := by omega
  unfold ae_F
  rcases ht3 with rfl | rfl | rfl
  · rw [ae_phapp_o (t := 1) (by omega), ae_phapp_o (t := 2) (by omega)]
    omega
  · rw [ae_phapp_o (t := 0) (by omega), ae_phapp_o (t := 2) (by omega)]
    omega
  · rw [ae_phapp_o (t := 0) (by omega), ae_phapp_o (t := 1) (by omega)]
    omega
theorem ae_Fclr {g : Nat → ae_E} {s t n : Nat} (ht : t < 3) (hn : n ≤ s) (hn0 : ae_LL g s t ≠ 0) (h0 : (g n).1 = 0) (hl : (g n).2.2.2.2.2 < n) (hc : ae_ch g (ae_LL g s t) = ae_ch g n) (x : Nat) :
    ae_F (ae_up g (s + 1) (1, t, (g n).2.2.1, 0, x, (g n).2.2.2.2.2)) (s + 1) ≤ ae_F g s := by
  refine ae_Fapp ht rfl ?_
  unfold ae_ph
  rw [ae_LLapp_d rfl (by show (1 : Nat) < 2; omega), ae_chapp_c (by show (1 : Nat) ≠ 0; omega) (by show (g n).2.2.2.2.2 ≤ s; omega), hc, ae_chu hl h0, if_neg (by omega), if_neg hn0, List.length_cons]
  dsimp only
  omega
theorem ae_Fend {g : Nat → ae_E} {s t : Nat} {e : ae_E} (ht : t < 3) (he : ¬ e.1 < 2) (het : e.2.1 = t) (hn0 : ae_LL g s t ≠ 0) : ae_F (ae_up g (s + 1) e) (s + 1) ≤ ae_F g s := by
  refine ae_Fapp ht het ?_
  unfold ae_ph
  rw [ae_LLapp_e het he, ae_ch0, if_pos rfl, if_neg hn0, List.length_nil]
  omega
/-- for every safe part of the log: taking all back gives V, and there is room for it -/
def ae_WS (g : Nat → ae_E) (Z : Nat → Nat) (se le : Nat) (V : Nat → Nat) : Prop := ∀ s, se ≤ s → s ≤ le → (∀ c, c < 16 → ae_W g Z s c = V c) ∧ ae_F g s ≤ 264
theorem ae_WSapp {g : Nat → ae_E} {Z : Nat → Nat} {se le : Nat} {V : Nat → Nat} {e : ae_E} (h : ae_WS g Z se le V) (h1 : ∀ c, c < 16 → ae_W (ae_up g (le + 1) e) Z (le + 1) c = V c) (h2 : ae_F (ae_up g (le + 1) e) (le + 1) ≤ 264) : ae_WS (ae_up g (le + 1) e) Z se (le + 1) V := by
  intro s hs hl
  by_cases z : s = le + 1
  · rw [z]
    exact ⟨h1, h2⟩
  · have hh := h s hs (by omega)
    have o : ∀ n, 0 < n → n ≤ s → ae_up g (le + 1) e n = g n := fun n _ hn => ae_un (by omega)
    refine ⟨fun c hc => ?_, ?_⟩
    · rw [ae_Wcong o]
      exact hh.1 c hc
    · rw [ae_Fcong o]
      exact hh.2
theorem ae_WSse {g : Nat → ae_E} {Z : Nat → Nat} {se se' le : Nat} {V : Nat → Nat} (h : ae_WS g Z se le V) (hs : se ≤ se') : ae_WS g Z se' le V := fun s h1 h2 => h s (Nat.le_trans hs h1) h2
end
section
/-! pages against the log, no program in sight -/
/-- the disk (or the pool, in a restart): with k = the greater of the page's number and b, a cell is what it was at k, or a safe entry behind k writes it -/
def ae_PD (g : Nat → ae_E) (Z : Nat → Nat) (se b : Nat) (dc dn : Nat → Nat) : Prop := ∀ c, c < 16 → dc c = ae_R g Z (max (dn (c / 4)) b) c ∨ ae_ex g c (max (dn (c / 4)) b) se
theorem ae_excong {g g' : Nat → ae_E} {c k s : Nat} (h : ∀ n, 0 < n → n ≤ s → g' n = g n) (x : ae_ex g c k s) : ae_ex g' c k s := by
  obtain ⟨n, h1, h2, h3⟩ := x
  refine ⟨n, h1, h2, ?_⟩
  unfold ae_on
  rw [h n (by omega) h2]
  exact h3
theorem ae_exm {g : Nat → ae_E} {c k s s' : Nat} (h : s ≤ s') (x : ae_ex g c k s) : ae_ex g c k s' := by
  obtain ⟨n, h1, h2, h3⟩ := x
  exact ⟨n, h1, by omega, h3⟩
/-- some pages have gone out -/
def ae_FL (cur num : Nat → Nat) (se : Nat) (dc dn fst : Nat → Nat) (se' : Nat) (dc' dn' fst' : Nat → Nat) : Prop :=
  se ≤ se' ∧ (se' = se ∨ ∃ p, p < 4 ∧ se' = num p) ∧
  ∀ p, p < 4 → (dn' p = dn p ∧ fst' p = fst p ∧ ∀ i, i < 4 → dc' (4 * p + i) = dc (4 * p + i)) ∨ (num p ≤ se' ∧ dn' p = num p ∧ fst' p = 0 ∧ ∀ i, i < 4 → dc' (4 * p + i) = cur (4 * p + i))
theorem ae_FLr {cur num : Nat → Nat} {se : Nat} {dc dn fst : Nat → Nat} : ae_FL cur num se dc dn fst se dc dn fst :=
  ⟨Nat.le_refl _, Or.inl rfl, fun _ _ => Or.inl ⟨rfl, rfl, fun _ _ => rfl⟩⟩
theorem ae_FLt {cur num : Nat → Nat} {se se' se'' : Nat} {dc dn fst dc' dn' fst' dc'' dn'' fst'' : Nat → Nat} (h : ae_FL cur num se dc dn fst se' dc' dn' fst') (h2 : ae_FL cur num se' dc' dn' fst' se'' dc'' dn'' fst'') : ae_FL cur num se dc dn fst se'' dc'' dn'' fst'' := by
  refine ⟨Nat.le_trans h.1 h2.1, ?_, fun p hp => ?_⟩
  · cases h2.2.1 with
    | inl e => rw [e]; exact h.2.1
    | inr e => exact Or.inr e
  · cases h2.2.2 p hp with
    | inl e =>
      cases h.2.2 p hp with
      | inl f => exact Or.inl ⟨e.1.trans f.1, e.2.1.trans f.2.1, fun i hi => (e.2.2 i hi).trans (f.2.2 i hi)⟩
      | inr f => exact Or.inr ⟨Nat.le_trans f.1 h2.1, e.1.trans f.2.1, e.2.1.trans f.2.2.1, fun i hi => (e.2.2 i hi).trans (f.2.2.2 i hi)⟩
    | inr e => exact Or.inr e
theorem ae_FLle {cur num : Nat → Nat} {se se' le : Nat} {dc dn fst dc' dn' fst' : Nat → Nat} (h : ae_FL cur num se dc dn fst se' dc' dn' fst') (h1 : se ≤ le) (h2 : ∀ p, p < 4 → num p ≤ le) : se' ≤ le := by
  cases h.2.1 with
  | inl e => omega
  | inr e =>
    obtain ⟨p, hp, e⟩ := e
    rw [e]
    exact h2 p hp
theorem ae_FLdn {cur num : Nat → Nat} {se se' : Nat} {dc dn fst dc' dn' fst' : Nat → Nat} (h : ae_FL cur num se dc dn fst se' dc' dn' fst') (h2 : ∀ p, p < 4 → dn p ≤ se) : ∀ p, p < 4 → dn' p ≤ se' := by
  intro p hp
  cases h.2.2 p hp with
  | inl e =>
    rw [e.1]
    exact Nat.le_trans (h2 p hp) h.1
  | inr e =>
    rw [e.2.1]
    exact e.1
theorem ae_c4 (c : Nat) : 4 * (c / 4) + c % 4 = c := by omega
/-- normal running, and the taking back in a restart (q: outside of restarts) -/
def ae_NB (q : Prop) (g : Nat → ae_E) (Z : Nat → Nat) (se le b : Nat) (dc dn cur num fst : Nat → Nat) : Prop :=
  se ≤ le ∧ b ≤ se ∧ (∀ p, p < 4 → num p ≤ le ∧ dn p ≤ se ∧ fst p ≤ le) ∧
  (∀ c, c < 16 → cur c = ae_R g Z le c) ∧
  (∀ n, 0 < n → n ≤ le → (g n).1 < 2 → n ≤ num ((g n).2.2.1 / 4) ∨ n ≤ se) ∧
  ae_PD g Z se b dc dn ∧
  (q → ∀ c, c < 16 → fst (c / 4) ≠ 0 → dn (c / 4) < fst (c / 4) ∧ (dc c = ae_R g Z (fst (c / 4) - 1) c ∨ ae_ex g c (fst (c / 4) - 1) se))
theorem ae_FLfst {cur num : Nat → Nat} {se se' le : Nat} {dc dn fst dc' dn' fst' : Nat → Nat} (h : ae_FL cur num se dc dn fst se' dc' dn' fst') (h2 : ∀ p, p < 4 → fst p ≤ le) : ∀ p, p < 4 → fst' p ≤ le := by
  intro p hp
  cases h.2.2 p hp with
  | inl e =>
    rw [e.2.1]
    exact h2 p hp
  | inr e =>
    rw [e.2.2.1]
    exact Nat.zero_le _
theorem ae_NBfl {q : Prop} {g : Nat → ae_E} {Z : Nat → Nat} {se se' le b : Nat} {dc dn cur num fst dc' dn' fst' : Nat → Nat} (h : ae_NB q g Z se le b dc dn cur num fst) (f : ae_FL cur num se dc dn fst se' dc' dn' fst') : ae_NB q g Z se' le b dc' dn' cur num fst' := by
  obtain ⟨h1, h2, h3, h4, h5, h6, h7⟩ := h
  have hle : se' ≤ le := ae_FLle f h1 (fun p hp => (h3 p hp).1)
  have f1 := f.1
  refine ⟨hle, by omega, fun p hp => ⟨(h3 p hp).1, ae_FLdn f (fun p hp => (h3 p hp).2.1) p hp, ae_FLfst f (fun p hp => (h3 p hp).2.2) p hp⟩, h4, fun n n0 n1 n2 => ?_, fun c hc => ?_, fun hq c hc hf => ?_⟩
  · cases h5 n n0 n1 n2 with
    | inl e => exact Or.inl e
    | inr e => exact Or.inr (by omega)
  · have hp : c / 4 < 4 := by omega
    have hi : c % 4 < 4 := by omega
    cases f.2.2 (c / 4) hp with
    | inl e =>
      have ed := e.2.2 (c % 4) hi
      rw [ae_c4] at ed
      rw [ed, e.1]
      cases h6 c hc with
      | inl x => exact Or.inl x
      | inr x => exact Or.inr (ae_exm f1 x)
    | inr e =>
      have ed := e.2.2.2 (c % 4) hi
      rw [ae_c4] at ed
      rw [ed, e.2.1, h4 c hc]
      have hn := (h3 (c / 4) hp).1
      by_cases x : ae_ex g c (max (num (c / 4)) b) le
      · obtain ⟨n, x1, x2, x3⟩ := x
        refine Or.inr ⟨n, x1, ?_, x3⟩
        cases h5 n (by omega) x2 x3.1 with
        | inl y =>
          rw [x3.2] at y
          omega
        | inr y => omega
      · exact Or.inl (ae_Rsk (by omega) x)
  · have hp : c / 4 < 4 := by omega
    have hi : c % 4 < 4 := by omega
    cases f.2.2 (c / 4) hp with
    | inl e =>
      have ed := e.2.2 (c % 4) hi
      rw [ae_c4] at ed
      rw [e.2.1] at hf
      have y := h7 hq c hc hf
      rw [ed, e.1, e.2.1]
      refine ⟨y.1, ?_⟩
      cases y.2 with
      | inl x => exact Or.inl x
      | inr x => exact Or.inr (ae_exm f1 x)
    | inr e => exact absurd e.2.2.1 hf
def ae_dirt (fst : Nat → Nat) (p n : Nat) : Nat → Nat := if fst p = 0 then ae_up fst p n else fst
theorem ae_dirt_o {fst : Nat → Nat} {p n q : Nat} (h : q ≠ p) : ae_dirt fst p n q = fst q := by
  unfold ae_dirt
  split
  · exact ae_un h
  · rfl
theorem ae_dirt_0 {fst : Nat → Nat} {p n : Nat} (h : fst p = 0) : ae_dirt fst p n p = n := by
  unfold ae_dirt
  rw [if_pos h, ae_us]
theorem ae_dirt_1 {fst : Nat → Nat} {p n : Nat} (h : fst p ≠ 0) : ae_dirt fst p n p = fst p := by
  unfold ae_dirt
  rw [if_neg h]
theorem ae_PDapp {g : Nat → ae_E} {Z : Nat → Nat} {se le b : Nat} {dc dn : Nat → Nat} {e : ae_E} (h : ae_PD g Z se b dc dn) (hs : se ≤ le) (hb : b ≤ se) (hd : ∀ p, p < 4 → dn p ≤ se) : ae_PD (ae_up g (le + 1) e) Z se b dc dn := by
  intro c hc
  have hp := hd (c / 4) (by omega)
  have o : ∀ s, s ≤ le → ∀ n, 0 < n → n ≤ s → ae_up g (le + 1) e n = g n := fun s h n _ hn => ae_un (by omega)
  cases h c hc with
  | inl x =>
    refine Or.inl ?_
    rw [ae_Rcong _ (o _ (by omega))]
    exact x
  | inr x => exact Or.inr (ae_excong (o _ hs) x)
/-- an entry that changes cell c, and its page -/
theorem ae_NBapp {q : Prop} {g : Nat → ae_E} {Z : Nat → Nat} {se le b : Nat} {dc dn cur num fst : Nat → Nat} {e : ae_E} (h : ae_NB q g Z se le b dc dn cur num fst) (he : e.1 < 2)
    (hcl : fst (e.2.2.1 / 4) = 0 → ∀ i, i < 4 → dc (4 * (e.2.2.1 / 4) + i) = cur (4 * (e.2.2.1 / 4) + i)) :
    ae_NB q (ae_up g (le + 1) e) Z se (le + 1) b dc dn (ae_up cur e.2.2.1 e.2.2.2.2.1) (ae_up num (e.2.2.1 / 4) (le + 1)) (ae_dirt fst (e.2.2.1 / 4) (le + 1)) := by
  obtain ⟨h1, h2, h3, h4, h5, h6, h7⟩ := h
  have o : ∀ s, s ≤ le → ∀ n, 0 < n → n ≤ s → ae_up g (le + 1) e n = g n := fun s h n _ hn => ae_un (by omega)
  refine ⟨by omega, h2, fun p hp => ?_, fun c hc => ?_, fun n n0 n1 n2 => ?_, ae_PDapp h6 h1 h2 (fun p hp => (h3 p hp).2.1), fun hq c hc hf => ?_⟩
  · have := h3 p hp
    by_cases z : p = e.2.2.1 / 4
    · rw [z] at this ⊢
      rw [ae_us]
      refine ⟨Nat.le_refl _, this.2.1, ?_⟩
      by_cases y : fst (e.2.2.1 / 4) = 0
      · rw [ae_dirt_0 y]
        exact Nat.le_refl _
      · rw [ae_dirt_1 y]
        omega
    · rw [ae_un z, ae_dirt_o z]
      omega
  · rw [ae_Rapp_d he]
    by_cases z : c = e.2.2.1
    · rw [z, ae_us, ae_us]
    · rw [ae_un z, ae_un z]
      exact h4 c hc
  · by_cases z : n = le + 1
    · rw [z, ae_us, ae_us]
      exact Or.inl (Nat.le_refl _)
    · rw [ae_un z] at n2 ⊢
      cases h5 n n0 (by omega) n2 with
      | inl y =>
        by_cases w : (g n).2.2.1 / 4 = e.2.2.1 / 4
        · rw [w, ae_us]
          exact Or.inl (by omega)
        · rw [ae_un w]
          exact Or.inl y
      | inr y => exact Or.inr y
  · have hdn := h3 (c / 4) (by omega)
    by_cases w : c / 4 = e.2.2.1 / 4
    · by_cases hz : fst (e.2.2.1 / 4) = 0
      · rw [w, ae_dirt_0 hz]
        refine ⟨by rw [← w]; omega, Or.inl ?_⟩
        rw [show le + 1 - 1 = le by omega, ae_Rcong _ (o _ (Nat.le_refl _)), ← h4 c hc]
        have := hcl hz (c % 4) (by omega)
        rw [← w, ae_c4] at this
        exact this
      · rw [w] at hdn
        rw [w, ae_dirt_1 hz]
        have y := h7 hq c hc (by rw [w]; exact hz)
        rw [w] at y
        refine ⟨y.1, ?_⟩
        cases y.2 with
        | inl x =>
          refine Or.inl ?_
          rw [ae_Rcong _ (o _ (by omega))]
          exact x
        | inr x => exact Or.inr (ae_excong (o _ h1) x)
    · rw [ae_dirt_o w] at hf ⊢
      have y := h7 hq c hc hf
      refine ⟨y.1, ?_⟩
      cases y.2 with
      | inl x =>
        refine Or.inl ?_
        rw [ae_Rcong _ (o _ (by omega))]
        exact x
      | inr x => exact Or.inr (ae_excong (o _ h1) x)
/-- an entry that ends a run -/
theorem ae_NBend {q : Prop} {g : Nat → ae_E} {Z : Nat → Nat} {se le b : Nat} {dc dn cur num fst : Nat → Nat} {e : ae_E} (h : ae_NB q g Z se le b dc dn cur num fst) (he : ¬ e.1 < 2) :
    ae_NB q (ae_up g (le + 1) e) Z se (le + 1) b dc dn cur num fst := by
  obtain ⟨h1, h2, h3, h4, h5, h6, h7⟩ := h
  have o : ∀ s, s ≤ le → ∀ n, 0 < n → n ≤ s → ae_up g (le + 1) e n = g n := fun s h n _ hn => ae_un (by omega)
  refine ⟨by omega, h2, fun p hp => ?_, fun c hc => ?_, fun n n0 n1 n2 => ?_, ae_PDapp h6 h1 h2 (fun p hp => (h3 p hp).2.1), fun hq c hc hf => ?_⟩
  · have := h3 p hp
    omega
  · rw [ae_Rapp_e he]
    exact h4 c hc
  · by_cases z : n = le + 1
    · rw [z, ae_us] at n2
      exact absurd n2 he
    · rw [ae_un z] at n2 ⊢
      exact h5 n n0 (by omega) n2
  · have hdn := h3 (c / 4) (by omega)
    have y := h7 hq c hc hf
    refine ⟨y.1, ?_⟩
    cases y.2 with
    | inl x =>
      refine Or.inl ?_
      rw [ae_Rcong _ (o _ (by omega))]
      exact x
    | inr x => exact Or.inr (ae_excong (o _ h1) x)
/-- more of the log is safe -/
theorem ae_NBse {q : Prop} {g : Nat → ae_E} {Z : Nat → Nat} {se se' le b : Nat} {dc dn cur num fst : Nat → Nat} (h : ae_NB q g Z se le b dc dn cur num fst) (h1 : se ≤ se') (h2 : se' ≤ le) : ae_NB q g Z se' le b dc dn cur num fst := by
  obtain ⟨a1, a2, a3, a4, a5, a6, a7⟩ := h
  refine ⟨h2, by omega, fun p hp => ?_, a4, fun n n0 n1 n2 => ?_, fun c hc => ?_, fun hq c hc hf => ?_⟩
  · have := a3 p hp
    omega
  · cases a5 n n0 n1 n2 with
    | inl y => exact Or.inl y
    | inr y => exact Or.inr (by omega)
  · cases a6 c hc with
    | inl y => exact Or.inl y
    | inr y => exact Or.inr (ae_exm h1 y)
  · have y := a7 hq c hc hf
    refine ⟨y.1, ?_⟩
    cases y.2 with
    | inl x => exact Or.inl x
    | inr x => exact Or.inr (ae_exm h1 x)
/-- a checkpoint -/
theorem ae_NBck {g : Nat → ae_E} {Z : Nat → Nat} {se le b b' : Nat} {dc dn cur num fst : Nat → Nat} (h : ae_NB True g Z se le b dc dn cur num fst) (hb : b' ≤ le) (hf : ∀ p, p < 4 → fst p ≠ 0 → b' < fst p)
    (hcl : ∀ p, p < 4 → fst p = 0 → ∀ i, i < 4 → dc (4 * p + i) = cur (4 * p + i)) : ae_NB True g Z le le b' dc dn cur num fst := by
  have h' := ae_NBse h h.1 (Nat.le_refl _)
  obtain ⟨a1, a2, a3, a4, a5, a6, a7⟩ := h'
  have hs := h.2.2.1
  refine ⟨a1, hb, a3, a4, a5, fun c hc => ?_, a7⟩
  have hp : c / 4 < 4 := by omega
  have hd := hs (c / 4) hp
  have hse := h.1
  by_cases z : fst (c / 4) = 0
  · have ed := hcl (c / 4) hp z (c % 4) (by omega)
    rw [ae_c4] at ed
    rw [ed, a4 c hc]
    by_cases x : ae_ex g c (max (dn (c / 4)) b') le
    · exact Or.inr x
    · exact Or.inl (ae_Rsk (by omega) x)
  · have y := a7 trivial c hc z
    have hb' := hf (c / 4) hp z
    cases y.2 with
    | inl x =>
      by_cases w : ae_ex g c (max (dn (c / 4)) b') (fst (c / 4) - 1)
      · exact Or.inr (ae_exm (by omega) w)
      · refine Or.inl ?_
        rw [x]
        exact ae_Rsk (by omega) w
    | inr x =>
      obtain ⟨n, x1, x2, x3⟩ := x
      exact Or.inr ⟨n, by omega, x2, x3⟩
/-- the doing again, at entry m: the pool's pages too, and what lies ahead of m is in them -/
def ae_RB (g : Nat → ae_E) (Z : Nat → Nat) (s b m : Nat) (dc dn cur num fst : Nat → Nat) : Prop :=
  b ≤ s ∧ (∀ p, p < 4 → num p ≤ s ∧ dn p ≤ s ∧ fst p ≤ s) ∧ ae_PD g Z s b dc dn ∧ ae_PD g Z s b cur num ∧
  (∀ n, b < n → n < m → (g n).1 < 2 → n ≤ num ((g n).2.2.1 / 4))
theorem ae_RBse {g : Nat → ae_E} {Z : Nat → Nat} {s b m se' : Nat} {dc dn cur num fst dc' dn' fst' : Nat → Nat} (h : ae_RB g Z s b m dc dn cur num fst) (f : ae_FL cur num s dc dn fst se' dc' dn' fst') : se' = s := by
  have a := ae_FLle f (Nat.le_refl s) (fun p hp => (h.2.1 p hp).1)
  have := f.1
  omega
theorem ae_RBfl {g : Nat → ae_E} {Z : Nat → Nat} {s b m : Nat} {dc dn cur num fst dc' dn' fst' : Nat → Nat} (h : ae_RB g Z s b m dc dn cur num fst) (f : ae_FL cur num s dc dn fst s dc' dn' fst') : ae_RB g Z s b m dc' dn' cur num fst' := by
  obtain ⟨h1, h2, h3, h4, h5⟩ := h
  refine ⟨h1, fun p hp => ⟨(h2 p hp).1, ae_FLdn f (fun p hp => (h2 p hp).2.1) p hp, ae_FLfst f (fun p hp => (h2 p hp).2.2) p hp⟩, fun c hc => ?_, h4, h5⟩
  have hp : c / 4 < 4 := by omega
  have hi : c % 4 < 4 := by omega
  cases f.2.2 (c / 4) hp with
  | inl e =>
    have ed := e.2.2 (c % 4) hi
    rw [ae_c4] at ed
    rw [ed, e.1]
    exact h3 c hc
  | inr e =>
    have ed := e.2.2.2 (c % 4) hi
    rw [ae_c4] at ed
    rw [ed, e.2.1]
    exact h4 c hc
/-- entry m is passed over: no change of a cell, or it is in its page already -/
theorem ae_RBskip {g : Nat → ae_E} {Z : Nat → Nat} {s b m : Nat} {dc dn cur num fst : Nat → Nat} (h : ae_RB g Z s b m dc dn cur num fst) (hm : (g m).1 < 2 → m ≤ num ((g m).2.2.1 / 4)) : ae_RB g Z s b (m + 1) dc dn cur num fst := by
  obtain ⟨h1, h2, h3, h4, h5⟩ := h
  refine ⟨h1, h2, h3, h4, fun n n0 n1 n2 => ?_⟩
  by_cases z : n = m
  · rw [z] at n2 ⊢
    exact hm n2
  · exact h5 n n0 (by omega) n2
/-- entry m is done again -/
theorem ae_RBdo {g : Nat → ae_E} {Z : Nat → Nat} {s b m : Nat} {dc dn cur num fst : Nat → Nat} (h : ae_RB g Z s b m dc dn cur num fst) (hm0 : b < m) (hms : m ≤ s) (hm : (g m).1 < 2) (hn : num ((g m).2.2.1 / 4) < m) :
    ae_RB g Z s b (m + 1) dc dn (ae_up cur (g m).2.2.1 (g m).2.2.2.2.1) (ae_up num ((g m).2.2.1 / 4) m) (ae_dirt fst ((g m).2.2.1 / 4) m) := by
  obtain ⟨h1, h2, h3, h4, h5⟩ := h
  obtain ⟨k, rfl⟩ : ∃ k, m = k + 1 := ⟨m - 1, by omega⟩
  refine ⟨h1, fun p hp => ?_, h3, fun c hc => ?_, fun n n0 n1 n2 => ?_⟩
  · have := h2 p hp
    by_cases z : p = (g (k + 1)).2.2.1 / 4
    · rw [z] at this ⊢
      rw [ae_us]
      refine ⟨hms, this.2.1, ?_⟩
      by_cases y : fst ((g (k + 1)).2.2.1 / 4) = 0
      · rw [ae_dirt_0 y]
        exact hms
      · rw [ae_dirt_1 y]
        omega
    · rw [ae_un z, ae_dirt_o z]
      omega
  · by_cases w : c / 4 = (g (k + 1)).2.2.1 / 4
    · rw [w, ae_us, show max (k + 1) b = k + 1 by omega]
      by_cases z : c = (g (k + 1)).2.2.1
      · rw [z, ae_us]
        exact Or.inl (ae_Rt ⟨hm, rfl⟩).symm
      · rw [ae_un z]
        have no : ∀ n, max (num ((g (k + 1)).2.2.1 / 4)) b < n → n ≤ k + 1 → ¬ ae_on g n c := by
          intro n n1 n2 n3
          by_cases y : n = k + 1
          · rw [y] at n3
            exact z n3.2.symm
          · have := h5 n (by omega) (by omega) n3.1
            rw [n3.2, w] at this
            omega
        have hc' := h4 c hc
        rw [w] at hc'
        cases hc' with
        | inl x =>
          refine Or.inl ?_
          rw [x]
          exact (ae_Rsk (by omega) (fun ⟨n, n1, n2, n3⟩ => no n n1 n2 n3)).symm
        | inr x =>
          obtain ⟨n, n1, n2, n3⟩ := x
          refine Or.inr ⟨n, ?_, n2, n3⟩
          by_cases y : n ≤ k + 1
          · exact absurd n3 (no n n1 y)
          · omega
    · rw [ae_un w, ae_un (fun z => w (by rw [z]))]
      exact h4 c hc
  · by_cases y : (g n).2.2.1 / 4 = (g (k + 1)).2.2.1 / 4
    · rw [y, ae_us]
      omega
    · rw [ae_un y]
      by_cases z : n = k + 1
      · rw [z] at y
        exact absurd rfl y
      · exact h5 n n0 (by omega) n2
/-- all is done again: the cells are those of the log's end -/
theorem ae_RBfin {g : Nat → ae_E} {Z : Nat → Nat} {s b : Nat} {dc dn cur num fst : Nat → Nat} (h : ae_RB g Z s b (s + 1) dc dn cur num fst) : ae_NB False g Z s s b dc dn cur num fst := by
  obtain ⟨h1, h2, h3, h4, h5⟩ := h
  refine ⟨Nat.le_refl _, h1, h2, fun c hc => ?_, fun n n0 n1 n2 => Or.inr n1, h3, fun hq => absurd hq id⟩
  have hp := (h2 (c / 4) (by omega)).1
  have no : ¬ ae_ex g c (max (num (c / 4)) b) s := by
    intro x
    obtain ⟨n, n1, n2, n3⟩ := x
    have := h5 n (by omega) (by omega) n3.1
    rw [n3.2] at this
    omega
  cases h4 c hc with
  | inl x =>
    rw [x]
    exact (ae_Rsk (by omega) no).symm
  | inr x => exact absurd x no
end
section
/-! the clearing out of a long log, no program in sight -/
/-- entry n is kept: its transaction runs and has not ended at n or behind it -/
def ae_kp (g : Nat → ae_E) (le : Nat) (ru : Nat → Nat) (n : Nat) : Prop := ru (g n).2.1 ≠ 0 ∧ ∀ m, n ≤ m → m ≤ le → (g m).2.1 = (g n).2.1 → (g m).1 < 2
def ae_mve (g : Nat → ae_E) (mv : Nat → Nat) (m : Nat) : ae_E := ((g m).1, (g m).2.1, (g m).2.2.1, (g m).2.2.2.1, (g m).2.2.2.2.1, mv (g m).2.2.2.2.2)
/-- entries 1..i are looked at, k of them kept -/
def ae_CI (g : Nat → ae_E) (le : Nat) (ru : Nat → Nat) (i k : Nat) (g' : Nat → ae_E) (mv : Nat → Nat) : Prop :=
  k ≤ i ∧ mv 0 = 0 ∧ (∀ m, m ≤ i → mv m ≤ k) ∧
  (∀ m, 0 < m → m ≤ i → ae_kp g le ru m → g' (mv m) = ae_mve g mv m) ∧
  (∀ m m', m < m' → m' ≤ i → ae_kp g le ru m' → mv m < mv m') ∧
  (∀ j, 0 < j → j ≤ k → ∃ m, 0 < m ∧ m ≤ i ∧ ae_kp g le ru m ∧ mv m = j) ∧
  (∀ j, i < j → g' j = g j) ∧
  k = ae_CN g' k 0 + ae_CN g' k 1 + ae_CN g' k 2 ∧
  (∀ t, ru t = 0 → ae_CN g' k t = 0) ∧
  (∀ t, (∃ m, i < m ∧ m ≤ le ∧ (g m).2.1 = t ∧ ¬ (g m).1 < 2) → ae_CN g' k t = 0) ∧
  (∀ t, ae_CN g' k t ≤ ae_CN g i t)
theorem ae_CI0 {g : Nat → ae_E} {le : Nat} {ru mv : Nat → Nat} (h : mv 0 = 0) : ae_CI g le ru 0 0 g mv := by
  refine ⟨Nat.le_refl _, h, fun m hm => ?_, fun m h0 h1 => absurd h0 (by omega), fun m m' h0 h1 => absurd h0 (by omega), fun j h0 h1 => absurd h0 (by omega), fun _ _ => rfl, rfl, fun _ _ => rfl, fun _ _ => rfl, fun _ => Nat.le_refl _⟩
  rw [show m = 0 by omega, h]
  exact Nat.le_refl _
/-- an entry is left out -/
theorem ae_CIn {g : Nat → ae_E} {le i k : Nat} {ru mv mv' : Nat → Nat} {g' : Nat → ae_E} (hv : ae_VL g le) (h : ae_CI g le ru i k g' mv) (hi : i < le) (hn : ¬ ae_kp g le ru (i + 1)) (hm : mv' (i + 1) = k) (ho : ∀ m, m ≠ i + 1 → mv' m = mv m) : ae_CI g le ru (i + 1) k g' mv' := by
  obtain ⟨h1, h2, h3, h4, h5, h6, h7, h8, h9, h10, h11⟩ := h
  refine ⟨by omega, by rw [ho 0 (by omega)]; exact h2, fun m m1 => ?_, fun m m0 m1 mk => ?_, fun m m' m0 m1 mk => ?_, fun j j0 j1 => ?_, fun j hj => h7 j (by omega), h8, h9, fun t ht => ?_, fun t => ?_⟩
  · by_cases z : m = i + 1
    · rw [z, hm]
      exact Nat.le_refl _
    · rw [ho m z]
      exact h3 m (by omega)
  · have z : m ≠ i + 1 := fun z => hn (by rw [z] at mk; exact mk)
    have e := h4 m m0 (by omega) mk
    rw [ho m z, e]
    unfold ae_mve
    have y := (hv m m0 (by omega)).2.2.2
    rw [ho (g m).2.2.2.2.2 (by omega)]
  · have z : m' ≠ i + 1 := fun z => hn (by rw [z] at mk; exact mk)
    rw [ho m' z, ho m (by omega)]
    exact h5 m m' m0 (by omega) mk
  · obtain ⟨m, a, b, c, d⟩ := h6 j j0 j1
    exact ⟨m, a, by omega, c, by rw [ho m (by omega)]; exact d⟩
  · obtain ⟨m, a, b, c, d⟩ := ht
    exact h10 t ⟨m, by omega, b, c, d⟩
  · have b := h11 t
    rw [ae_CNs]
    by_cases z : (g (i + 1)).2.1 = t
    · rw [if_pos z]
      by_cases y : ru t = 0
      · rw [h9 t y]
        exact Nat.zero_le _
      · have : ∃ m, i + 1 ≤ m ∧ m ≤ le ∧ (g m).2.1 = (g (i + 1)).2.1 ∧ ¬ (g m).1 < 2 := by
          refine Classical.byContradiction (fun q => hn ⟨by rw [z]; exact y, fun m m1 m2 m3 => Classical.byContradiction (fun w => q ⟨m, m1, m2, m3, w⟩)⟩)
        obtain ⟨m, a, b', c, d⟩ := this
        rw [h10 t ⟨m, by omega, b', c.trans z, d⟩]
        exact Nat.zero_le _
    · rw [if_neg z]
      exact b
/-- an entry is kept -/
theorem ae_CIk {g : Nat → ae_E} {le i k : Nat} {ru mv mv' : Nat → Nat} {g' g'' : Nat → ae_E} (hv : ae_VL g le) (h : ae_CI g le ru i k g' mv) (hi : i < le) (hn : ae_kp g le ru (i + 1)) (hm : mv' (i + 1) = k + 1) (ho : ∀ m, m ≠ i + 1 → mv' m = mv m)
    (hg : g'' (k + 1) = ae_mve g mv' (i + 1)) (hgo : ∀ j, j ≠ k + 1 → g'' j = g' j) : ae_CI g le ru (i + 1) (k + 1) g'' mv' := by
  obtain ⟨h1, h2, h3, h4, h5, h6, h7, h8, h9, h10, h11⟩ := h
  have vi := hv (i + 1) (by omega) (by omega)
  have so2 : (g (i + 1)).1 < 2 := hn.2 (i + 1) (Nat.le_refl _) (by omega) rfl
  have cn : ∀ t, ae_CN g'' (k + 1) t = if (g (i + 1)).2.1 = t then ae_CN g' k t + 1 else ae_CN g' k t := by
    intro t
    have c : ae_CN g'' k t = ae_CN g' k t := ae_CNcong k (fun n n0 n1 => hgo n (by omega))
    rw [ae_CNs, hg, c]
    show (if (g (i + 1)).2.1 = t then (if (g (i + 1)).1 < 2 then ae_CN g' k t + 1 else 0) else ae_CN g' k t) = _
    rw [if_pos so2]
  refine ⟨by omega, by rw [ho 0 (by omega)]; exact h2, fun m m1 => ?_, fun m m0 m1 mk => ?_, fun m m' m0 m1 mk => ?_, fun j j0 j1 => ?_, fun j hj => ?_, ?_, fun t ht => ?_, fun t ht => ?_, fun t => ?_⟩
  · by_cases z : m = i + 1
    · rw [z, hm]
      exact Nat.le_refl _
    · rw [ho m z]
      have := h3 m (by omega)
      omega
  · by_cases z : m = i + 1
    · rw [z, hm]
      exact hg
    · have e := h4 m m0 (by omega) mk
      have b := h3 m (by omega)
      rw [ho m z, hgo _ (by omega), e]
      unfold ae_mve
      have y := (hv m m0 (by omega)).2.2.2
      rw [ho (g m).2.2.2.2.2 (by omega)]
  · by_cases z : m' = i + 1
    · rw [z, hm, ho m (by omega)]
      have := h3 m (by omega)
      omega
    · rw [ho m' z, ho m (by omega)]
      exact h5 m m' m0 (by omega) mk
  · by_cases z : j = k + 1
    · exact ⟨i + 1, by omega, by omega, hn, by rw [z, hm]⟩
    · obtain ⟨m, a, b, c, d⟩ := h6 j j0 (by omega)
      exact ⟨m, a, by omega, c, by rw [ho m (by omega)]; exact d⟩
  · rw [hgo j (by omega)]
    exact h7 j (by omega)
  · rw [cn 0, cn 1, cn 2]
    have t3 : (g (i + 1)).2.1 = 0 ∨ (g (i + 1)).2.1 = 1 ∨ (g (i + 1)).2.1 = 2 := by omega
    rcases t3 with e | e | e
    · rw [e, if_pos rfl, if_neg (by omega), if_neg (by omega)]
      omega
    · rw [e, if_neg (by omega), if_pos rfl, if_neg (by omega)]
      omega
    · rw [e, if_neg (by omega), if_neg (by omega), if_pos rfl]
      omega
  · rw [cn t, if_neg (fun z => hn.1 (by rw [z]; exact ht))]
    exact h9 t ht
  · obtain ⟨m, a, b, c, d⟩ := ht
    rw [cn t, if_neg (fun z => d (hn.2 m (by omega) b (c.trans z.symm)))]
    exact h10 t ⟨m, by omega, b, c, d⟩
  · have b := h11 t
    rw [cn t, ae_CNs, if_pos so2]
    by_cases z : (g (i + 1)).2.1 = t
    · rw [if_pos z, if_pos z]
      omega
    · rw [if_neg z, if_neg z]
      exact b
section
variable {g g' : Nat → ae_E} {le k : Nat} {ru mv : Nat → Nat}
theorem ae_CIvl (hv : ae_VL g le) (h : ae_CI g le ru le k g' mv) : ae_VL g' k := by
  obtain ⟨h1, h2, h3, h4, h5, h6, h7, h8, h9, h10, h11⟩ := h
  intro n n0 n1
  obtain ⟨m, a, b, c, d⟩ := h6 n n0 n1
  have e := h4 m a b c
  have v := hv m a b
  rw [← d, e]
  exact ⟨v.1, v.2.1, v.2.2.1, h5 _ m v.2.2.2 b c⟩
/-- every entry of the new log is an old one -/
theorem ae_CIold (h : ae_CI g le ru le k g' mv) {j : Nat} (h0 : 0 < j) (h1 : j ≤ k) : ∃ m, 0 < m ∧ m ≤ le ∧ ae_kp g le ru m ∧ mv m = j ∧ g' j = ae_mve g mv m := by
  obtain ⟨m, a, b, c, d⟩ := h.2.2.2.2.2.1 j h0 h1
  refine ⟨m, a, b, c, d, ?_⟩
  rw [← d]
  exact h.2.2.2.1 m a b c
theorem ae_CIso (h : ae_CI g le ru le k g' mv) {j : Nat} (h0 : 0 < j) (h1 : j ≤ k) : (g' j).1 < 2 := by
  obtain ⟨m, a, b, c, d, e⟩ := ae_CIold h h0 h1
  rw [e]
  exact c.2 m (Nat.le_refl _) b rfl
theorem ae_CImono (h : ae_CI g le ru le k g' mv) {m m' : Nat} (hm' : m' ≤ le) (km : ae_kp g le ru m) (km' : ae_kp g le ru m') (hm : m ≤ le) (e : mv m = mv m') : m = m' := by
  by_cases a : m < m'
  · have := h.2.2.2.2.1 m m' a hm' km'
    omega
  · by_cases b : m' < m
    · have := h.2.2.2.2.1 m' m b hm km
      omega
    · omega
/-- latest entries -/
theorem ae_CIll (hv : ae_VL g le) (h : ae_CI g le ru le k g' mv) (t : Nat) : ae_LL g' k t = if ru t = 0 then 0 else mv (ae_LL g le t) := by
  by_cases z : ru t = 0
  · rw [if_pos z]
    refine Classical.byContradiction (fun q => ?_)
    have sp := ae_LLspec k q
    have hle := ae_LLle (g := g') (t := t) k
    obtain ⟨m, a, b, c, d, e⟩ := ae_CIold h (j := ae_LL g' k t) (by omega) hle
    rw [e] at sp
    have e1 : (g m).2.1 = t := sp.1
    exact c.1 (by rw [e1]; exact z)
  · rw [if_neg z]
    have hle := ae_LLle (g := g') (t := t) k
    have hle2 := ae_LLle (g := g) (t := t) le
    by_cases y : ae_LL g le t = 0
    · rw [y, h.2.1]
      refine Classical.byContradiction (fun q => ?_)
      have sp := ae_LLspec k q
      obtain ⟨m, a, b, c, d, e⟩ := ae_CIold h (j := ae_LL g' k t) (by omega) hle
      rw [e] at sp
      have e1 : (g m).2.1 = t := sp.1
      obtain ⟨m2, a2, b2, c2, d2⟩ := ae_LLnone le y m a b e1
      exact d2 (c.2 m2 a2 b2 (c2.trans e1.symm))
    · have sp := ae_LLspec le y
      have kq : ae_kp g le ru (ae_LL g le t) := by
        refine ⟨by rw [sp.1]; exact z, fun m m1 m2 m3 => ?_⟩
        by_cases w : m = ae_LL g le t
        · rw [w]
          exact sp.2.1
        · exact absurd (m3.trans sp.1) (sp.2.2 m (by omega) m2)
      have pos : 0 < mv (ae_LL g le t) := by
        have := h.2.2.2.2.1 0 _ (by omega) hle2 kq
        omega
      have hk := h.2.2.1 (ae_LL g le t) hle2
      have e := h.2.2.2.1 _ (by omega) hle2 kq
      have bwe : (g' (mv (ae_LL g le t))).2.1 = t := by
        rw [e]
        exact sp.1
      have soe : (g' (mv (ae_LL g le t))).1 < 2 := ae_CIso h pos hk
      by_cases q : ae_LL g' k t = 0
      · obtain ⟨m2, a2, b2, c2, d2⟩ := ae_LLnone k q _ pos hk bwe
        exact absurd (ae_CIso h (by omega) b2) d2
      · have sp' := ae_LLspec k q
        have ge : mv (ae_LL g le t) ≤ ae_LL g' k t := by
          refine Classical.byContradiction (fun w => ?_)
          exact sp'.2.2 _ (by omega) hk bwe
        obtain ⟨m, a, b, c, d, e'⟩ := ae_CIold h (j := ae_LL g' k t) (by omega) hle
        have e1 : (g m).2.1 = t := by
          have := sp'.1
          rw [e'] at this
          exact this
        have mle : m ≤ ae_LL g le t := by
          refine Classical.byContradiction (fun w => ?_)
          exact sp.2.2 m (by omega) b e1
        by_cases w : m = ae_LL g le t
        · rw [← d, w]
        · have := h.2.2.2.2.1 m _ (by omega) hle2 kq
          omega
/-- chains and paths -/
def ae_pth (g : Nat → ae_E) (le : Nat) (ru : Nat → Nat) (n : Nat) : Prop := ∀ m, ae_rc g n m → m ≠ 0 → ae_kp g le ru m
theorem ae_pthn (p : ae_pth g le ru k) (hk : (g k).2.2.2.2.2 < k) : ae_pth g le ru (g k).2.2.2.2.2 := fun m hm h0 => p m (ae_rcs hk hm) h0
theorem ae_CIch (hv : ae_VL g le) (h : ae_CI g le ru le k g' mv) : ∀ n, n ≤ le → ae_pth g le ru n → ae_ch g' (mv n) = ae_ch g n := by
  intro n
  induction n using Nat.strongRecOn with
  | ind n ih =>
    intro hn p
    by_cases z : n = 0
    · rw [z, h.2.1, ae_ch0, ae_ch0]
    · have v := hv n (by omega) hn
      have kn := p n ae_rcr z
      have e := h.2.2.2.1 n (by omega) hn kn
      have i := ih _ v.2.2.2 (by omega) (ae_pthn p v.2.2.2)
      have lt : (g' (mv n)).2.2.2.2.2 < mv n := by
        rw [e]
        exact h.2.2.2.2.1 _ n v.2.2.2 hn kn
      by_cases s : (g n).1 = 0
      · rw [ae_chu v.2.2.2 s, ae_chu lt (by rw [e]; exact s), e]
        show ((g n).2.2.1, (g n).2.2.2.1) :: ae_ch g' (mv (g n).2.2.2.2.2) = _
        rw [i]
      · rw [ae_chc v.2.2.2 s, ae_chc lt (by rw [e]; exact s), e]
        exact i
theorem ae_CIrc (hv : ae_VL g le) (h : ae_CI g le ru le k g' mv) {b : Nat} : ∀ n, n ≤ le → ae_pth g le ru n → ae_rc g n b → ae_rc g' (mv n) (mv b) := by
  intro n
  induction n using Nat.strongRecOn with
  | ind n ih =>
    intro hn p r
    cases ae_rci r with
    | inl e => rw [e]; exact ae_rcr
    | inr w =>
      have kn := p n ae_rcr (by omega)
      have e := h.2.2.2.1 n (by omega) hn kn
      have i := ih _ w.1 (by omega) (ae_pthn p w.1) w.2
      refine ae_rcs ?_ ?_
      · rw [e]
        exact h.2.2.2.2.1 _ n w.1 hn kn
      · rw [e]
        exact i
/-- what the new links reach -/
theorem ae_CIrcb (hv : ae_VL g le) (h : ae_CI g le ru le k g' mv) {j : Nat} : ∀ n, n ≤ le → ae_pth g le ru n → ae_rc g' (mv n) j → j ≠ 0 → ∃ m, ae_rc g n m ∧ m ≠ 0 ∧ mv m = j := by
  intro n
  induction n using Nat.strongRecOn with
  | ind n ih =>
    intro hn p r j0
    by_cases z : n = 0
    · rw [z, h.2.1] at r
      have := ae_rcle 0 r
      omega
    · have v := hv n (by omega) hn
      have kn := p n ae_rcr z
      have e := h.2.2.2.1 n (by omega) hn kn
      cases ae_rci r with
      | inl y => exact ⟨n, ae_rcr, z, y⟩
      | inr w =>
        have w2 := w.2
        rw [e] at w2
        obtain ⟨m, a, b, c⟩ := ih _ v.2.2.2 (by omega) (ae_pthn p v.2.2.2) w2 j0
        exact ⟨m, ae_rcs v.2.2.2 a, b, c⟩
/-- locks: a kept change of a cell is followed by changes of the same transaction alone -/
def ae_LK (g : Nat → ae_E) (le : Nat) (ru he : Nat → Nat) : Prop := ∀ n, 0 < n → n ≤ le → ae_kp g le ru n → (he (g n).2.1).testBit (g n).2.2.1 = true ∧ ∀ m, n < m → m ≤ le → (g m).1 < 2 → (g m).2.2.1 = (g n).2.2.1 → (g m).2.1 = (g n).2.1
theorem ae_CIlk {he : Nat → Nat} (h : ae_CI g le ru le k g' mv) (lk : ae_LK g le ru he) : ae_LK g' k ru he := by
  intro n n0 n1 _
  obtain ⟨m, a, b, c, d, e⟩ := ae_CIold h n0 n1
  have l := lk m a b c
  rw [e]
  refine ⟨l.1, fun n' w1 w2 w3 w4 => ?_⟩
  obtain ⟨m', a', b', c', d', e'⟩ := ae_CIold h (j := n') (by omega) w2
  rw [e'] at w3 w4 ⊢
  have mm : m < m' := by
    by_cases z : m = m'
    · rw [z, d'] at d
      omega
    · by_cases y : m' < m
      · have := h.2.2.2.2.1 m' m y b c
        omega
      · omega
  exact l.2 m' mm b' w3 w4
theorem ae_CIr {he Z cur : Nat → Nat} (h : ae_CI g le ru le k g' mv) (lk : ae_LK g le ru he) {c : Nat} (hc : cur c = ae_R g Z le c) : ae_R g' cur k c = cur c := by
  have key : ∀ s, s ≤ k → ae_R g' cur s c = cur c ∨ ∃ j, s < j ∧ j ≤ k ∧ ae_on g' j c := by
    intro s
    induction s with
    | zero => exact fun _ => Or.inl rfl
    | succ s ih =>
      intro hs
      by_cases o : ae_on g' (s + 1) c
      · obtain ⟨m, a, b, kk, d, e⟩ := ae_CIold h (j := s + 1) (by omega) hs
        have om : ae_on g m c := by
          unfold ae_on at o
          rw [e] at o
          exact o
        by_cases x : ae_ex g c m le
        · obtain ⟨m2, x1, x2, x3⟩ := x
          have bw2 := (lk m a b kk).2 m2 x1 x2 x3.1 (x3.2.trans om.2.symm)
          have k2 : ae_kp g le ru m2 := ⟨by rw [bw2]; exact kk.1, fun q q1 q2 q3 => kk.2 q (by omega) q2 (q3.trans bw2)⟩
          have gt := h.2.2.2.2.1 m m2 x1 x2 k2
          refine Or.inr ⟨mv m2, by omega, h.2.2.1 m2 x2, ?_⟩
          unfold ae_on
          rw [h.2.2.2.1 m2 (by omega) x2 k2]
          exact x3
        · refine Or.inl ?_
          obtain ⟨m1, rfl⟩ : ∃ m1, m = m1 + 1 := ⟨m - 1, by omega⟩
          rw [ae_Rt o, e, hc, ae_Rsk b x, ae_Rt om]
          rfl
      · cases ih (by omega) with
        | inl x => exact Or.inl (by rw [ae_Rf o]; exact x)
        | inr x =>
          obtain ⟨j, j1, j2, j3⟩ := x
          by_cases z : j = s + 1
          · rw [z] at j3
            exact absurd j3 o
          · exact Or.inr ⟨j, by omega, j2, j3⟩
  cases key k (Nat.le_refl _) with
  | inl x => exact x
  | inr x =>
    obtain ⟨j, j1, j2, j3⟩ := x
    omega
end
end
section
/-! the printed states over natural numbers; the pool -/
def ae_A (f : Nat → Nat) : Nat → Int32 := fun j => nI (f j)
def ae_P (f : Nat → Nat) : Nat → Int32 := fun j => nI (f j) - 1
theorem ae_Ac {f : Nat → Nat} {j : Nat} (h : j < 2 ^ 31) : ae_A f (nI j).toNatClampNeg = nI (f j) := by
  rw [nI_clamp h]
  rfl
theorem ae_Au {f : Nat → Nat} {k v : Nat} : upd (ae_A f) k (nI v) = ae_A (ae_up f k v) := by
  funext j
  show (if j = k then nI v else nI (f j)) = nI (if j = k then v else f j)
  by_cases z : j = k
  · rw [if_pos z, if_pos z]
  · rw [if_neg z, if_neg z]
theorem ae_Uc {f : Nat → Nat} {k v : Nat} {x : Int32} (h : k < 2 ^ 31) (hx : x = nI v) : upd (ae_A f) (nI k).toNatClampNeg x = ae_A (ae_up f k v) := by
  rw [nI_clamp h, hx, ae_Au]
theorem ae_Pc {f : Nat → Nat} {j p : Nat} (h : j < 2 ^ 31) (hp : f j = p + 1) : ae_P f (nI j).toNatClampNeg = nI p := by
  rw [nI_clamp h]
  show nI (f j) - 1 = nI p
  rw [hp]
  exact nI_pred p
theorem ae_Pneg {f : Nat → Nat} {j : Nat} (h : j < 2 ^ 31) (hp : f j = 0) : ae_P f (nI j).toNatClampNeg < 0 := by
  rw [nI_clamp h]
  show nI (f j) - 1 < 0
  rw [hp]
  decide
theorem ae_Ppos {f : Nat → Nat} {j p : Nat} (h : j < 2 ^ 31) (hp : f j = p + 1) (h4 : p < 4) : ¬ ae_P f (nI j).toNatClampNeg < 0 := by
  rw [ae_Pc h hp]
  exact nI_pos (by omega)
theorem ae_Pne {f : Nat → Nat} {j p : Nat} (h : j < 2 ^ 31) (hj : f j ≤ 4) (h4 : p < 4) (hp : f j ≠ p + 1) : ¬ ae_P f (nI j).toNatClampNeg = nI p := by
  rw [nI_clamp h]
  show ¬ nI (f j) - 1 = nI p
  intro z
  have q : ∀ a, a ≤ 4 → ∀ b, b < 4 → nI a - 1 = nI b → a = b + 1 := by decide +kernel
  exact hp (q _ hj _ h4 z)
theorem ae_PU {f : Nat → Nat} {k p : Nat} {x : Int32} (h : k < 2 ^ 31) (hx : x = nI p) : upd (ae_P f) (nI k).toNatClampNeg x = ae_P (ae_up f k (p + 1)) := by
  rw [nI_clamp h, hx]
  funext j
  show (if j = k then nI p else nI (f j) - 1) = nI (if j = k then p + 1 else f j) - 1
  by_cases z : j = k
  · rw [if_pos z, if_pos z, nI_pred]
  · rw [if_neg z, if_neg z]
theorem ae_n8 : ∀ v, v < 128 → (nI v).toInt8.toInt32 = nI v := by decide +kernel
theorem ae_n16 : ∀ v, v < 512 → (nI v).toInt16.toInt32 = nI v := by decide +kernel
theorem ae_nb {x : Int32} {v : Nat} (h : v < 128) (hx : x = nI v) : vp_nar .byte x = nI v := by
  rw [hx, vp_nar_byte, ae_n8 v h]
theorem ae_ns {x : Int32} {v : Nat} (h : v < 512) (hx : x = nI v) : vp_nar .short x = nI v := by
  rw [hx, vp_nar_short, ae_n16 v h]
theorem ae_46 (a i : Nat) : (4 : Int32) * nI a + nI i = nI (4 * a + i) := by
  show nI 4 * nI a + nI i = _
  rw [pk_mul, nI_add]
def ae_S (se ce le fc hd st : Nat) (dc dn cl cf : Nat → Nat) (g : Nat → ae_E) (mv pi fe fn fh ru he wr la ma : Nat → Nat) : St1 := ((nI se), (nI ce), (nI le), (nI fc), (nI hd), (nI st), (ae_A dc), (ae_A dn), (ae_A cl), (ae_A cf), (ae_A (fun n => (g n).1)), (ae_A (fun n => (g n).2.1)), (ae_A (fun n => (g n).2.2.1)), (ae_A (fun n => (g n).2.2.2.1)), (ae_A (fun n => (g n).2.2.2.2.1)), (ae_A (fun n => (g n).2.2.2.2.2)), (ae_A mv), (ae_P pi), (ae_A fe), (ae_A fn), (ae_A fh), (ae_A ru), (ae_A he), (ae_A wr), (ae_A la), (ae_A ma))
section
variable {se ce le fc hd st : Nat} {dc dn cl cf mv pi fe fn fh ru he wr la ma cur num fst : Nat → Nat} {g : Nat → ae_E} {N b : Nat} {V Z mk : Nat → Nat} {sk : Nat → List (Nat × Nat)}
def ae_cp (d s : Nat → Nat) (a b i : Nat) : Nat → Nat := fun j => if a ≤ j ∧ j < a + i then s (b + (j - a)) else d j
theorem ae_cp0 {d s : Nat → Nat} {a b : Nat} : ae_cp d s a b 0 = d := by
  funext j
  show (if a ≤ j ∧ j < a + 0 then s (b + (j - a)) else d j) = d j
  rw [if_neg (by omega)]
theorem ae_cps {d s : Nat → Nat} {a b i : Nat} : ae_up (ae_cp d s a b i) (a + i) (s (b + i)) = ae_cp d s a b (i + 1) := by
  funext j
  show (if j = a + i then s (b + i) else (if a ≤ j ∧ j < a + i then s (b + (j - a)) else d j)) = (if a ≤ j ∧ j < a + (i + 1) then s (b + (j - a)) else d j)
  by_cases z : j = a + i
  · rw [if_pos z, if_pos (by omega), show j - a = i by omega]
  · by_cases y : a ≤ j ∧ j < a + i
    · rw [if_neg z, if_pos y, if_pos (by omega)]
    · rw [if_neg z, if_neg y, if_neg (by omega)]
theorem ae_cpi {d s : Nat → Nat} {a b n i : Nat} (h : i < n) : ae_cp d s a b n (a + i) = s (b + i) := by
  show (if a ≤ a + i ∧ a + i < a + n then s (b + (a + i - a)) else d (a + i)) = _
  rw [if_pos (by omega), show a + i - a = i by omega]
theorem ae_cpo {d s : Nat → Nat} {a b n j : Nat} (h : j < a ∨ a + n ≤ j) : ae_cp d s a b n j = d j := by
  show (if a ≤ j ∧ j < a + n then s (b + (j - a)) else d j) = _
  rw [if_neg (by omega)]
/-- the pool: pages in frames, their cells, numbers and first changes; clean pages are as on the disk -/
def ae_PL (fc hd : Nat) (pi fe fn fh dc dn cur num fst : Nat → Nat) : Prop :=
  1 ≤ fc ∧ fc ≤ 3 ∧ hd < fc ∧ (∀ f, f < fc → pi f ≤ 4) ∧
  (∀ f h, f < fc → h < fc → pi f = pi h → pi f ≠ 0 → f = h) ∧
  (∀ f p, f < fc → pi f = p + 1 → (∀ i, i < 4 → fe (4 * f + i) = cur (4 * p + i)) ∧ fn f = num p ∧ fh f = fst p) ∧
  (∀ p, p < 4 → (∀ f, f < fc → pi f ≠ p + 1) → fst p = 0) ∧
  (∀ p, p < 4 → fst p = 0 → dn p = num p ∧ ∀ i, i < 4 → dc (4 * p + i) = cur (4 * p + i)) ∧
  (∀ p, p < 4 → num p ≤ 300 ∧ fst p ≤ 300)
theorem ae_PLhd {hd' : Nat} (h : ae_PL fc hd pi fe fn fh dc dn cur num fst) (h2 : hd' < fc) : ae_PL fc hd' pi fe fn fh dc dn cur num fst :=
  ⟨h.1, h.2.1, h2, h.2.2.2⟩
/-- frame f's page goes out -/
theorem ae_PLw {f p : Nat} (h : ae_PL fc hd pi fe fn fh dc dn cur num fst) (hf : f < fc) (hp : p < 4) (e : pi f = p + 1) : ae_PL fc hd pi fe fn (ae_up fh f 0) (ae_cp dc fe (4 * p) (4 * f) 4) (ae_up dn p (fn f)) cur num (ae_up fst p 0) := by
  obtain ⟨h1, h2, h3, h4, h5, h6, h7, h8, h9⟩ := h
  have hh := h6 f p hf e
  refine ⟨h1, h2, h3, h4, h5, fun f' p' hf' e' => ?_, fun p' hp' hn => ?_, fun p' hp' hz => ?_, fun p' hp' => ?_⟩
  · have hh' := h6 f' p' hf' e'
    by_cases z : f' = f
    · rw [z, e] at e'
      have pp : p' = p := by omega
      rw [z, pp, ae_us, ae_us]
      rw [z, pp] at hh'
      exact ⟨hh'.1, hh'.2.1, rfl⟩
    · have pp : p' ≠ p := fun w => z (h5 f' f hf' hf (by rw [e', e, w]) (by omega))
      rw [ae_un z, ae_un pp]
      exact hh'
  · by_cases z : p' = p
    · rw [z, ae_us]
    · rw [ae_un z]
      exact h7 p' hp' hn
  · by_cases z : p' = p
    · rw [z, ae_us]
      refine ⟨hh.2.1, fun i hi => ?_⟩
      rw [ae_cpi hi]
      exact hh.1 i hi
    · rw [ae_un z] at hz ⊢
      refine ⟨(h8 p' hp' hz).1, fun i hi => ?_⟩
      rw [ae_cpo (by omega)]
      exact (h8 p' hp' hz).2 i hi
  · by_cases z : p' = p
    · rw [z, ae_us]
      exact ⟨(h9 p hp).1, by omega⟩
    · rw [ae_un z]
      exact h9 p' hp'
theorem ae_PLwf {f p : Nat} (h : ae_PL fc hd pi fe fn fh dc dn cur num fst) (hf : f < fc) (hp : p < 4) (e : pi f = p + 1) : ae_FL cur num se dc dn fst (max se (fn f)) (ae_cp dc fe (4 * p) (4 * f) 4) (ae_up dn p (fn f)) (ae_up fst p 0) := by
  obtain ⟨h1, h2, h3, h4, h5, h6, h7, h8, h9⟩ := h
  have hh := h6 f p hf e
  refine ⟨by omega, ?_, fun p' hp' => ?_⟩
  · by_cases z : fn f ≤ se
    · exact Or.inl (by omega)
    · exact Or.inr ⟨p, hp, by omega⟩
  · by_cases z : p' = p
    · rw [z, ae_us, ae_us]
      refine Or.inr ⟨by omega, hh.2.1, rfl, fun i hi => ?_⟩
      rw [ae_cpi hi]
      exact hh.1 i hi
    · rw [ae_un z, ae_un z]
      refine Or.inl ⟨rfl, rfl, fun i hi => ?_⟩
      rw [ae_cpo (by omega)]
/-- page p comes into frame f, whose page was clean -/
theorem ae_PLb {f p : Nat} (h : ae_PL fc hd pi fe fn fh dc dn cur num fst) (hf : f < fc) (hp : p < 4) (e : pi f = 0 ∨ fh f = 0) (hn : ∀ j, j < fc → pi j ≠ p + 1) : ae_PL fc hd (ae_up pi f (p + 1)) (ae_cp fe dc (4 * f) (4 * p) 4) (ae_up fn f (dn p)) (ae_up fh f 0) dc dn cur num fst := by
  obtain ⟨h1, h2, h3, h4, h5, h6, h7, h8, h9⟩ := h
  have hz := h7 p hp hn
  have hd' := h8 p hp hz
  refine ⟨h1, h2, h3, fun f' hf' => ?_, fun f' k hf' hk ee en => ?_, fun f' p' hf' e' => ?_, fun p' hp' hn' => ?_, h8, h9⟩
  · by_cases z : f' = f
    · rw [z, ae_us]
      omega
    · rw [ae_un z]
      exact h4 f' hf'
  · by_cases z : f' = f
    · by_cases y : k = f
      · rw [z, y]
      · rw [z, ae_us, ae_un y] at ee
        exact absurd ee.symm (hn k hk)
    · by_cases y : k = f
      · rw [y, ae_us, ae_un z] at ee
        exact absurd ee (hn f' hf')
      · rw [ae_un z, ae_un y] at ee
        rw [ae_un z] at en
        exact h5 f' k hf' hk ee en
  · by_cases z : f' = f
    · rw [z, ae_us] at e'
      have pp : p' = p := by omega
      rw [z, pp, ae_us, ae_us]
      refine ⟨fun i hi => ?_, hd'.1, hz.symm⟩
      rw [ae_cpi hi]
      exact hd'.2 i hi
    · rw [ae_un z] at e'
      rw [ae_un z, ae_un z]
      have hh := h6 f' p' hf' e'
      refine ⟨fun i hi => ?_, hh.2⟩
      rw [ae_cpo (by omega)]
      exact hh.1 i hi
  · by_cases y : pi f = p' + 1
    · cases e with
      | inl w => omega
      | inr w => rw [← (h6 f p' hf y).2.2]; exact w
    · refine h7 p' hp' (fun j hj w => ?_)
      by_cases z : j = f
      · exact y (by rw [← z]; exact w)
      · exact hn' j hj (by rw [ae_un z]; exact w)
/-- a change in frame f -/
theorem ae_PLa {f c v n : Nat} (h : ae_PL fc hd pi fe fn fh dc dn cur num fst) (hf : f < fc) (hc : c < 16) (e : pi f = c / 4 + 1) (n0 : 0 < n) (n1 : n ≤ 300) :
    ae_PL fc hd pi (ae_up fe (4 * f + c % 4) v) (ae_up fn f n) (ae_dirt fh f n) dc dn (ae_up cur c v) (ae_up num (c / 4) n) (ae_dirt fst (c / 4) n) := by
  obtain ⟨h1, h2, h3, h4, h5, h6, h7, h8, h9⟩ := h
  have hh := h6 f (c / 4) hf e
  have hp : c / 4 < 4 := by omega
  have nz : ae_dirt fst (c / 4) n (c / 4) ≠ 0 := by
    by_cases z : fst (c / 4) = 0
    · rw [ae_dirt_0 z]
      omega
    · rw [ae_dirt_1 z]
      exact z
  refine ⟨h1, h2, h3, h4, h5, fun f' p' hf' e' => ?_, fun p' hp' hn' => ?_, fun p' hp' hz => ?_, fun p' hp' => ?_⟩
  · have hh' := h6 f' p' hf' e'
    by_cases z : f' = f
    · rw [z, e] at e'
      have pp : p' = c / 4 := by omega
      rw [z, pp, ae_us, ae_us]
      refine ⟨fun i hi => ?_, rfl, ?_⟩
      · by_cases y : i = c % 4
        · rw [y, ae_us, ae_c4, ae_us]
        · rw [ae_un (by omega), ae_un (by omega)]
          exact hh.1 i hi
      · by_cases y : fst (c / 4) = 0
        · rw [ae_dirt_0 y, ae_dirt_0 (by rw [hh.2.2]; exact y)]
        · rw [ae_dirt_1 y, ae_dirt_1 (by rw [hh.2.2]; exact y)]
          exact hh.2.2
    · have pp : p' ≠ c / 4 := fun w => z (h5 f' f hf' hf (by rw [e', e, w]) (by omega))
      rw [ae_un z, ae_un pp, ae_dirt_o z, ae_dirt_o pp]
      refine ⟨fun i hi => ?_, hh'.2⟩
      rw [ae_un (by omega), ae_un (by omega)]
      exact hh'.1 i hi
  · have pp : p' ≠ c / 4 := fun w => hn' f hf (by rw [e, w])
    rw [ae_dirt_o pp]
    exact h7 p' hp' hn'
  · have pp : p' ≠ c / 4 := fun w => nz (by rw [← w]; rw [w]; rw [w] at hz; exact hz)
    rw [ae_dirt_o pp] at hz
    rw [ae_un pp]
    refine ⟨(h8 p' hp' hz).1, fun i hi => ?_⟩
    rw [ae_un (by omega)]
    exact (h8 p' hp' hz).2 i hi
  · by_cases z : p' = c / 4
    · rw [z, ae_us]
      refine ⟨n1, ?_⟩
      by_cases y : fst (c / 4) = 0
      · rw [ae_dirt_0 y]
        exact n1
      · rw [ae_dirt_1 y]
        exact (h9 _ hp).2
    · rw [ae_un z, ae_dirt_o z]
      exact h9 p' hp'
/-! walks: writePage, bringIn -/
theorem ae_wp51 {post : St1 → Prop} {f p : Nat} (hf : f < 3) (hp : p < 4) (hn : fn f ≤ 300) (H : post (ae_S se ce le fc hd st (ae_cp dc fe (4 * p) (4 * f) 4) (ae_up dn p (fn f)) cl cf g mv pi fe fn (ae_up fh f 0) ru he wr la ma)) : ∃ n, wX_writePage_51 post (nI f) (nI p) (nI se) (nI ce) (nI le) (nI fc) (nI hd) (nI st) n 0 (ae_A dc) (ae_A dn) (ae_A cl) (ae_A cf) (ae_A (fun n => (g n).1)) (ae_A (fun n => (g n).2.1)) (ae_A (fun n => (g n).2.2.1)) (ae_A (fun n => (g n).2.2.2.1)) (ae_A (fun n => (g n).2.2.2.2.1)) (ae_A (fun n => (g n).2.2.2.2.2)) (ae_A mv) (ae_P pi) (ae_A fe) (ae_A fn) (ae_A fh) (ae_A ru) (ae_A he) (ae_A wr) (ae_A la) (ae_A ma) := by
  refine pk_loop (fun n i s => wX_writePage_51 post (nI f) (nI p) (nI se) (nI ce) (nI le) (nI fc) (nI hd) (nI st) n (nI i) s (ae_A dn) (ae_A cl) (ae_A cf) (ae_A (fun n => (g n).1)) (ae_A (fun n => (g n).2.1)) (ae_A (fun n => (g n).2.2.1)) (ae_A (fun n => (g n).2.2.2.1)) (ae_A (fun n => (g n).2.2.2.2.1)) (ae_A (fun n => (g n).2.2.2.2.2)) (ae_A mv) (ae_P pi) (ae_A fe) (ae_A fn) (ae_A fh) (ae_A ru) (ae_A he) (ae_A wr) (ae_A la) (ae_A ma)) (fun i s => s = ae_A (ae_cp dc fe (4 * p) (4 * f) i)) 4 0 (ae_A dc) (by omega) (by rw [ae_cp0]) (fun n s hs => ?_) (fun n i s hi hs hw => ?_)
  · subst hs
    exact pk_le 4 4 (fun _ => ⟨pk_in f 3 hf, pk_in p 4 hp, nm_r (ae_Uc (by omega) (ae_ns (by omega) (ae_Ac (by omega)))) ⟨pk_in f 3 hf, nm_r (ae_Uc (v := 0) (by omega) rfl) H⟩⟩) (fun z => absurd z (by omega))
  · subst hs
    refine pk_le 4 i (fun z => absurd z (by omega)) (fun _ => ⟨pk_in (4 * f + i) 12 (by omega) (ae_46 f i), pk_in (4 * p + i) 16 (by omega) (ae_46 p i), nm_r (e' := ae_A (ae_cp dc fe (4 * p) (4 * f) (i + 1))) ?_ (nm_r (nI_1 i) (hw _ rfl))⟩)
    rw [ae_46, ae_46, ae_Ac (by omega), ae_Uc (by omega) rfl, ae_cps]
theorem ae_wp {post : St1 → Prop} {f : Nat} (hf : f < 3) (hp : pi f ≤ 4) (hse : se ≤ 300) (hn : pi f ≠ 0 → fn f ≤ 300 ∧ fh f ≤ 300) (h1 : pi f = 0 ∨ fh f = 0 → post (ae_S se ce le fc hd st dc dn cl cf g mv pi fe fn fh ru he wr la ma))
    (h2 : ∀ p, p < 4 → pi f = p + 1 → fh f ≠ 0 → post (ae_S (max se (fn f)) ce le fc hd st (ae_cp dc fe (4 * p) (4 * f) 4) (ae_up dn p (fn f)) cl cf g mv pi fe fn (ae_up fh f 0) ru he wr la ma)) : wpX_writePage post (ae_S se ce le fc hd st dc dn cl cf g mv pi fe fn fh ru he wr la ma) (nI f) := by
  unfold wpX_writePage ae_S
  dsimp only
  refine ⟨pk_in f 3 hf, ?_⟩
  by_cases z : pi f = 0
  · exact br_t (ae_Pneg (by omega) z) (h1 (Or.inl z))
  · obtain ⟨p, e⟩ : ∃ p, pi f = p + 1 := ⟨pi f - 1, by omega⟩
    have hp4 : p < 4 := by omega
    have hn' := hn z
    refine br_f (ae_Ppos (by omega) e hp4) ⟨pk_in f 3 hf, ?_⟩
    refine pk_eq (fh f) 0 (fun y => h1 (Or.inr y)) (fun y => ⟨pk_in f 3 hf, ?_⟩) (ae_Ac (by omega))
    refine pk_le (fn f) se (fun y' => ⟨pk_in f 3 hf, nm_r (ae_Pc (by omega) e) ?_⟩) (fun y' => ⟨pk_in f 3 hf, nm_r (ae_Ac (by omega)) ⟨pk_in f 3 hf, nm_r (ae_Pc (by omega) e) ?_⟩⟩) (ae_Ac (by omega))
    · have q := h2 p hp4 e y
      rw [show max se (fn f) = se by omega] at q
      exact ae_wp51 hf hp4 hn'.1 q
    · have q := h2 p hp4 e y
      rw [show max se (fn f) = fn f by omega] at q
      exact ae_wp51 hf hp4 hn'.1 q
/-- writePage over the pool's picture -/
theorem ae_wpP {post : St1 → Prop} {f : Nat} (hl : ae_PL fc hd pi fe fn fh dc dn cur num fst) (hf : f < fc) (hse : se ≤ 300)
    (H : ∀ (se' : Nat) (fh' dc' dn' fst' : Nat → Nat), ae_PL fc hd pi fe fn fh' dc' dn' cur num fst' → ae_FL cur num se dc dn fst se' dc' dn' fst' → (pi f = 0 ∨ fh' f = 0) → se' ≤ 300 → post (ae_S se' ce le fc hd st dc' dn' cl cf g mv pi fe fn fh' ru he wr la ma)) : wpX_writePage post (ae_S se ce le fc hd st dc dn cl cf g mv pi fe fn fh ru he wr la ma) (nI f) := by
  have hl' := hl
  obtain ⟨h1, h2, h3, h4, h5, h6, h7, h8, h9⟩ := hl
  refine ae_wp (by omega) (h4 f hf) hse (fun z => ?_) (fun z => H se fh dc dn fst hl' ae_FLr z hse) (fun p hp e z => ?_)
  · obtain ⟨p, e⟩ : ∃ p, pi f = p + 1 := ⟨pi f - 1, by omega⟩
    have q := h6 f p hf e
    have b := h4 f hf
    have r := h9 p (by omega)
    omega
  · have q := h6 f p hf e
    have r := h9 p hp
    exact H _ _ _ _ _ (ae_PLw hl' hf hp e) (ae_PLwf hl' hf hp e) (Or.inr ae_us) (by omega)
theorem ae_bi75 {post : Int32 → St1 → Prop} {f p : Nat} (hf : f < 3) (hp : p < 4) (hn : dn p ≤ 300) (H : post (nI f) (ae_S se ce le fc hd st dc dn cl cf g mv pi (ae_cp fe dc (4 * f) (4 * p) 4) (ae_up fn f (dn p)) (ae_up fh f 0) ru he wr la ma)) : ∃ n, wX_bringIn_75 post (nI p) (nI f) (nI se) (nI ce) (nI le) (nI fc) (nI hd) (nI st) n 0 (ae_A dc) (ae_A dn) (ae_A cl) (ae_A cf) (ae_A (fun n => (g n).1)) (ae_A (fun n => (g n).2.1)) (ae_A (fun n => (g n).2.2.1)) (ae_A (fun n => (g n).2.2.2.1)) (ae_A (fun n => (g n).2.2.2.2.1)) (ae_A (fun n => (g n).2.2.2.2.2)) (ae_A mv) (ae_P pi) (ae_A fe) (ae_A fn) (ae_A fh) (ae_A ru) (ae_A he) (ae_A wr) (ae_A la) (ae_A ma) := by
  refine pk_loop (fun n i s => wX_bringIn_75 post (nI p) (nI f) (nI se) (nI ce) (nI le) (nI fc) (nI hd) (nI st) n (nI i) (ae_A dc) (ae_A dn) (ae_A cl) (ae_A cf) (ae_A (fun n => (g n).1)) (ae_A (fun n => (g n).2.1)) (ae_A (fun n => (g n).2.2.1)) (ae_A (fun n => (g n).2.2.2.1)) (ae_A (fun n => (g n).2.2.2.2.1)) (ae_A (fun n => (g n).2.2.2.2.2)) (ae_A mv) (ae_P pi) s (ae_A fn) (ae_A fh) (ae_A ru) (ae_A he) (ae_A wr) (ae_A la) (ae_A ma)) (fun i s => s = ae_A (ae_cp fe dc (4 * f) (4 * p) i)) 4 0 (ae_A fe) (by omega) (by rw [ae_cp0]) (fun n s hs => ?_) (fun n i s hi hs hw => ?_)
  · subst hs
    exact pk_le 4 4 (fun _ => ⟨pk_in p 4 hp, pk_in f 3 hf, nm_r (ae_Uc (by omega) (ae_ns (by omega) (ae_Ac (by omega)))) ⟨pk_in f 3 hf, nm_r (ae_Uc (v := 0) (by omega) rfl) H⟩⟩) (fun z => absurd z (by omega))
  · subst hs
    refine pk_le 4 i (fun z => absurd z (by omega)) (fun _ => ⟨pk_in (4 * p + i) 16 (by omega) (ae_46 p i), pk_in (4 * f + i) 12 (by omega) (ae_46 f i), nm_r (e' := ae_A (ae_cp fe dc (4 * f) (4 * p) (i + 1))) ?_ (nm_r (nI_1 i) (hw _ rfl))⟩)
    rw [ae_46, ae_46, ae_Ac (by omega), ae_Uc (by omega) rfl, ae_cps]
theorem ae_bi57 {post : Int32 → St1 → Prop} {f p z0 : Nat} (hl : ae_PL fc hd pi fe fn fh dc dn cur num fst) (hf : f < fc) (hz : z0 < fc) (hp : p < 4) (hse : se ≤ 300) (hn : ∀ j, j < fc → pi j ≠ p + 1)
    (H : ∀ (f hd' se' : Nat) (pi' fe' fn' fh' dc' dn' fst' : Nat → Nat), ae_PL fc hd' pi' fe' fn' fh' dc' dn' cur num fst' → ae_FL cur num se dc dn fst se' dc' dn' fst' → f < fc → pi' f = p + 1 → se' ≤ 300 → post (nI f) (ae_S se' ce le fc hd' st dc' dn' cl cf g mv pi' fe' fn' fh' ru he wr la ma)) : wX_bringIn_57 post (nI p) (nI f) (nI z0) (nI se) (nI ce) (nI le) (nI fc) (nI hd) (nI st) (ae_A dc) (ae_A dn) (ae_A cl) (ae_A cf) (ae_A (fun n => (g n).1)) (ae_A (fun n => (g n).2.1)) (ae_A (fun n => (g n).2.2.1)) (ae_A (fun n => (g n).2.2.2.1)) (ae_A (fun n => (g n).2.2.2.2.1)) (ae_A (fun n => (g n).2.2.2.2.2)) (ae_A mv) (ae_P pi) (ae_A fe) (ae_A fn) (ae_A fh) (ae_A ru) (ae_A he) (ae_A wr) (ae_A la) (ae_A ma) := by
  unfold wX_bringIn_57
  have f3 : f < 3 := Nat.lt_of_lt_of_le hf hl.2.1
  refine ae_wpP (hd := z0) (ae_PLhd hl hz) hf hse (fun se' fh' dc' dn' fst' hl' hfl hcl hs' => ?_)
  unfold ae_S
  dsimp only
  have hb := ae_PLb hl' hf hp hcl hn
  have zz := hl'.2.2.2.2.2.2.1 p hp hn
  have dd := (hl'.2.2.2.2.2.2.2.1 p hp zz).1
  have nn := hl'.2.2.2.2.2.2.2.2 p hp
  exact ⟨pk_in f 3 f3, nm_r (ae_PU (by omega) (ae_n8 p (by omega))) (ae_bi75 f3 hp (by omega) (H _ _ _ _ _ _ _ _ _ _ hb hfl hf ae_us hs'))⟩
theorem ae_bi {post : Int32 → St1 → Prop} {p : Nat} (hl : ae_PL fc hd pi fe fn fh dc dn cur num fst) (hp : p < 4) (hse : se ≤ 300)
    (H : ∀ (f hd' se' : Nat) (pi' fe' fn' fh' dc' dn' fst' : Nat → Nat), ae_PL fc hd' pi' fe' fn' fh' dc' dn' cur num fst' → ae_FL cur num se dc dn fst se' dc' dn' fst' → f < fc → pi' f = p + 1 → se' ≤ 300 → post (nI f) (ae_S se' ce le fc hd' st dc' dn' cl cf g mv pi' fe' fn' fh' ru he wr la ma)) : wpX_bringIn post (ae_S se ce le fc hd st dc dn cl cf g mv pi fe fn fh ru he wr la ma) (nI p) := by
  unfold wpX_bringIn ae_S
  dsimp only
  have fc1 := hl.1
  have fc3 := hl.2.1
  have hdf := hl.2.2.1
  refine pk_loop (σ := Unit) (fun n i _ => wX_bringIn_2 post (nI p) (nI se) (nI ce) (nI le) (nI fc) (nI hd) (nI st) (ae_A dc) (ae_A dn) (ae_A cl) (ae_A cf) (ae_A (fun n => (g n).1)) (ae_A (fun n => (g n).2.1)) (ae_A (fun n => (g n).2.2.1)) (ae_A (fun n => (g n).2.2.2.1)) (ae_A (fun n => (g n).2.2.2.2.1)) (ae_A (fun n => (g n).2.2.2.2.2)) (ae_A mv) (ae_P pi) (ae_A fe) (ae_A fn) (ae_A fh) (ae_A ru) (ae_A he) (ae_A wr) (ae_A la) (ae_A ma) n (nI i)) (fun i _ => ∀ j, j < i → pi j ≠ p + 1) fc 0 () (by omega) (fun j hj => absurd hj (by omega)) (fun n _ hs => ?_) (fun n i _ hi hs hw => ?_)
  · refine pk_le fc fc (fun _ => ?_) (fun z => absurd z (by omega))
    exact pk_le fc (hd + 1) (fun z => ae_bi57 (z0 := 0) hl hdf (by omega) hp hse hs H) (fun z => by rw [nI_1]; exact ae_bi57 (z0 := hd + 1) hl hdf (by omega) hp hse hs H) rfl (nI_1 hd)
  · refine pk_le fc i (fun z => absurd z (by omega)) (fun _ => ⟨pk_in i 3 (by omega), ?_⟩)
    by_cases e : pi i = p + 1
    · exact br_t (ae_Pc (by omega) e) (H i hd se pi fe fn fh dc dn fst hl ae_FLr hi e hse)
    · refine br_f (ae_Pne (by omega) (hl.2.2.2.1 i hi) hp e) (nm_r (nI_1 i) (hw () (fun j hj => ?_)))
      by_cases z : j = i
      · rw [z]
        exact e
      · exact hs j (by omega)
end
end
section
/-! walks: append, applyEntry, apply, undoEntry, read -/
theorem ae_sh2 {c : Nat} (h : c < 2 ^ 31) : nI c >>> ((2 : Int32) &&& 31) = nI (c / 4) := pk_shrN h _ 2 (by decide)
theorem ae_an3 {c : Nat} (h : c < 2 ^ 31) : nI c &&& 3 = nI (c % 4) := pk_andN (by omega) 2 (by decide)
theorem ae_fa {f c : Nat} (h : c < 2 ^ 31) : (4 : Int32) * nI f + (nI c &&& 3) = nI (4 * f + c % 4) := by
  rw [ae_an3 h, ae_46]
theorem ae_Ug {g : Nat → ae_E} {m : Nat} {e : ae_E} {x : Int32} (q : ae_E → Nat) (h : m < 2 ^ 31) (hx : x = nI (q e)) : upd (ae_A (fun n => q (g n))) (nI m).toNatClampNeg x = ae_A (fun n => q (ae_up g m e n)) := by
  rw [nI_clamp h, hx]
  funext j
  show (if j = m then nI (q e) else nI (q (g j))) = nI (q (if j = m then e else g j))
  by_cases z : j = m
  · rw [if_pos z, if_pos z]
  · rw [if_neg z, if_neg z]
section
variable {se ce le fc hd st : Nat} {dc dn cl cf mv pi fe fn fh ru he wr la ma cur num fst : Nat → Nat} {g : Nat → ae_E} {N b : Nat} {V Z mk : Nat → Nat} {sk : Nat → List (Nat × Nat)}
theorem ae_app {post : St1 → Prop} {k t c x v l : Nat} (hk : k < 4) (ht : t < 3) (hc : c < 16) (hl : l ≤ 300) (hle : le < 300)
    (H : post (ae_S se ce (le + 1) fc hd st dc dn cl cf (ae_up g (le + 1) (k, t, c, x, v, l)) mv pi fe fn fh ru he wr (ae_up la t (le + 1)) ma)) : wpX_append post (ae_S se ce le fc hd st dc dn cl cf g mv pi fe fn fh ru he wr la ma) (nI k) (nI t) (nI c) (nI x) (nI v) (nI l) := by
  unfold wpX_append ae_S
  dsimp only
  have i : vp_in (nI (le + 1)) 301 := pk_in (le + 1) 301 (by omega)
  exact nm_r (nI_1 le) ⟨i, nm_r (ae_Ug (e := (k, t, c, x, v, l)) (fun e => e.1) (by omega) (ae_n8 k (by omega))) ⟨i, nm_r (ae_Ug (e := (k, t, c, x, v, l)) (fun e => e.2.1) (by omega) (ae_n8 t (by omega))) ⟨i, nm_r (ae_Ug (e := (k, t, c, x, v, l)) (fun e => e.2.2.1) (by omega) (ae_n8 c (by omega))) ⟨i, nm_r (ae_Ug (e := (k, t, c, x, v, l)) (fun e => e.2.2.2.1) (by omega) rfl) ⟨i, nm_r (ae_Ug (e := (k, t, c, x, v, l)) (fun e => e.2.2.2.2.1) (by omega) rfl) ⟨i, nm_r (ae_Ug (e := (k, t, c, x, v, l)) (fun e => e.2.2.2.2.2) (by omega) (ae_n16 l (by omega))) ⟨pk_in t 3 ht, nm_r (ae_Uc (by omega) (ae_n16 (le + 1) (by omega))) H⟩⟩⟩⟩⟩⟩⟩
theorem ae_ap {post : St1 → Prop} {f c v n : Nat} (hf : f < 3) (hc : c < 16) (hn : n ≤ 300) (hfh : fh f ≤ 300)
    (H : post (ae_S se ce le fc hd st dc dn cl cf g mv pi (ae_up fe (4 * f + c % 4) v) (ae_up fn f n) (ae_dirt fh f n) ru he wr la ma)) : wpX_applyEntry post (ae_S se ce le fc hd st dc dn cl cf g mv pi fe fn fh ru he wr la ma) (nI f) (nI c) (nI v) (nI n) := by
  unfold wpX_applyEntry ae_S
  dsimp only
  rw [ae_fa (by omega)]
  refine ⟨pk_in (4 * f + c % 4) 12 (by omega), nm_r (ae_Uc (by omega) rfl) ⟨pk_in f 3 hf, nm_r (ae_Uc (by omega) (ae_n16 n (by omega))) ⟨pk_in f 3 hf, ?_⟩⟩⟩
  refine pk_eq (fh f) 0 (fun z => ⟨pk_in f 3 hf, nm_r (ae_Uc (by omega) (ae_n16 n (by omega))) ?_⟩) (fun z => ?_) (ae_Ac (by omega))
  · unfold ae_dirt at H
    rw [if_pos z] at H
    exact H
  · unfold ae_dirt at H
    rw [if_neg z] at H
    exact H
theorem ae_apl {post : St1 → Prop} {f c v : Nat} (hf : f < 3) (hc : c < 16) (hn : le ≤ 300) (hfh : fh f ≤ 300)
    (H : post (ae_S se ce le fc hd st dc dn cl cf g mv pi (ae_up fe (4 * f + c % 4) v) (ae_up fn f le) (ae_dirt fh f le) ru he wr la ma)) : wpX_apply post (ae_S se ce le fc hd st dc dn cl cf g mv pi fe fn fh ru he wr la ma) (nI f) (nI c) (nI v) := by
  unfold wpX_apply
  exact ae_ap hf hc hn hfh H
theorem ae_fhb {f p : Nat} (h : ae_PL fc hd pi fe fn fh dc dn cur num fst) (hf : f < fc) (hp : p < 4) (e : pi f = p + 1) : fh f ≤ 300 ∧ fn f ≤ 300 := by
  have a := h.2.2.2.2.2.1 f p hf e
  have b := h.2.2.2.2.2.2.2.2 p hp
  omega
def ae_cln (dc cur fst : Nat → Nat) : Prop := ∀ p, p < 4 → fst p = 0 → ∀ i, i < 4 → dc (4 * p + i) = cur (4 * p + i)
theorem ae_PLc (h : ae_PL fc hd pi fe fn fh dc dn cur num fst) : ae_cln dc cur fst := fun p hp z => (h.2.2.2.2.2.2.2.1 p hp z).2
theorem ae_ue {post : St1 → Prop} {n t : Nat} (hl : ae_PL fc hd pi fe fn fh dc dn cur num fst) (hse : se ≤ 300) (hle : le < 300) (ht : t < 3) (hn : n ≤ le) (hc : (g n).2.2.1 < 16) (hli : (g n).2.2.2.2.2 ≤ 300)
    (H : ∀ (hd' se' : Nat) (pi' fe0 fn0 fh0 fe' fn' fh' dc' dn' fst' : Nat → Nat), ae_FL cur num se dc dn fst se' dc' dn' fst' → ae_PL fc hd' pi' fe0 fn0 fh0 dc' dn' cur num fst' →
      ae_PL fc hd' pi' fe' fn' fh' dc' dn' (ae_up cur (g n).2.2.1 (g n).2.2.2.1) (ae_up num ((g n).2.2.1 / 4) (le + 1)) (ae_dirt fst' ((g n).2.2.1 / 4) (le + 1)) → se' ≤ 300 →
      post (ae_S se' ce (le + 1) fc hd' st dc' dn' cl cf (ae_up g (le + 1) (1, t, (g n).2.2.1, 0, (g n).2.2.2.1, (g n).2.2.2.2.2)) mv pi' fe' fn' fh' ru he wr (ae_up la t (le + 1)) ma)) : wpX_undoEntry post (ae_S se ce le fc hd st dc dn cl cf g mv pi fe fn fh ru he wr la ma) (nI n) (nI t) := by
  unfold wpX_undoEntry ae_S
  dsimp only
  have i : vp_in (nI n) 301 := pk_in n 301 (by omega)
  refine ⟨i, nm_r (ae_Ac (by omega)) ?_⟩
  rw [ae_sh2 (by omega)]
  refine ae_bi hl (by omega) hse (fun f hd' se' pi' fe' fn' fh' dc' dn' fst' hl' hfl hf hpf hs' => ?_)
  have f3 : f < 3 := Nat.lt_of_lt_of_le hf hl'.2.1
  unfold ae_S
  dsimp only
  refine ⟨i, i, ?_⟩
  rw [ae_Ac (by omega), ae_Ac (by omega)]
  refine ae_app (k := 1) (x := 0) (by omega) ht hc hli hle ?_
  unfold ae_S
  dsimp only
  refine ⟨i, ?_⟩
  rw [ae_Ac (by omega), ae_un (by omega)]
  refine ae_apl f3 hc (by omega) (ae_fhb hl' hf (by omega) hpf).1 ?_
  exact H _ _ _ _ _ _ _ _ _ _ _ _ hfl hl' (ae_PLa hl' hf hc hpf (by omega) (by omega)) hs'
theorem ae_rd {post : Int32 → St1 → Prop} {c : Nat} (hl : ae_PL fc hd pi fe fn fh dc dn cur num fst) (hse : se ≤ 300) (hc : c < 16)
    (H : ∀ (hd' se' : Nat) (pi' fe' fn' fh' dc' dn' fst' : Nat → Nat), ae_FL cur num se dc dn fst se' dc' dn' fst' → ae_PL fc hd' pi' fe' fn' fh' dc' dn' cur num fst' → se' ≤ 300 →
      post (nI (cur c)) (ae_S se' ce le fc hd' st dc' dn' cl cf g mv pi' fe' fn' fh' ru he wr la ma)) : wpX_read post (ae_S se ce le fc hd st dc dn cl cf g mv pi fe fn fh ru he wr la ma) (nI c) := by
  unfold wpX_read ae_S
  dsimp only
  refine br_f (nI_pos (by omega)) (pk_le c 15 (fun _ => ?_) (fun z => absurd z (by omega)))
  rw [ae_sh2 (by omega)]
  refine ae_bi hl (by omega) hse (fun f hd' se' pi' fe' fn' fh' dc' dn' fst' hl' hfl hf hpf hs' => ?_)
  have f3 : f < 3 := Nat.lt_of_lt_of_le hf hl'.2.1
  unfold ae_S
  dsimp only
  rw [ae_fa (by omega)]
  refine ⟨pk_in (4 * f + c % 4) 12 (by omega), ?_⟩
  have e := (hl'.2.2.2.2.2.1 f (c / 4) hf hpf).1 (c % 4) (by omega)
  rw [ae_c4] at e
  rw [ae_Ac (by omega), e]
  exact H _ _ _ _ _ _ _ _ _ hfl hl' hs'
end
end
section
/-! transactions against the log, no program in sight -/
def ae_m1 (a x : Nat) : Nat := if x = 0 then a else if a ≤ x then a else x
def ae_fr (cf : Nat → Nat) (a : Nat) : Nat → Nat
  | 0 => a
  | p + 1 => ae_m1 (ae_fr cf a p) (cf p)
theorem ae_frle {cf : Nat → Nat} {a : Nat} : ∀ p, ae_fr cf a p ≤ a
  | 0 => Nat.le_refl _
  | p + 1 => by
    have := ae_frle (cf := cf) (a := a) p
    show ae_m1 _ _ ≤ a
    unfold ae_m1
    split
    · exact this
    · split
      · exact this
      · omega
theorem ae_frpos {cf : Nat → Nat} {a : Nat} (h : 0 < a) : ∀ p, 0 < ae_fr cf a p
  | 0 => h
  | p + 1 => by
    have := ae_frpos (cf := cf) h p
    show 0 < ae_m1 _ _
    unfold ae_m1
    split
    · exact this
    · split
      · exact this
      · omega
theorem ae_frcf {cf : Nat → Nat} {a : Nat} : ∀ p q, q < p → cf q ≠ 0 → ae_fr cf a p ≤ cf q
  | 0, q, h, _ => absurd h (by omega)
  | p + 1, q, h, hz => by
    have b : ae_m1 (ae_fr cf a p) (cf p) ≤ ae_fr cf a p ∧ (cf p ≠ 0 → ae_m1 (ae_fr cf a p) (cf p) ≤ cf p) := by
      unfold ae_m1
      split
      · rename_i w
        exact ⟨Nat.le_refl _, fun z => absurd w z⟩
      · split
        · rename_i w
          exact ⟨Nat.le_refl _, fun _ => w⟩
        · exact ⟨by omega, fun _ => Nat.le_refl _⟩
    show ae_m1 _ _ ≤ cf q
    by_cases e : q = p
    · rw [e] at hz ⊢
      exact b.2 hz
    · have := ae_frcf (a := a) p q (by omega) hz
      omega
/-- the checkpoint: b + 1 is where the doing again begins -/
def ae_CK (g : Nat → ae_E) (se ce b : Nat) (cl cf : Nat → Nat) : Prop := ce ≤ se ∧ ae_fr cf (ce + 1) 4 = b + 1 ∧ (∀ p, p < 4 → cf p ≤ 300) ∧ ∀ t, t < 3 → cl t = ae_LL g ce t
theorem ae_CKse {g : Nat → ae_E} {se se' ce b : Nat} {cl cf : Nat → Nat} (h : ae_CK g se ce b cl cf) (hs : se ≤ se') : ae_CK g se' ce b cl cf := ⟨Nat.le_trans h.1 hs, h.2⟩
theorem ae_CKapp {g : Nat → ae_E} {se le ce b : Nat} {cl cf : Nat → Nat} {e : ae_E} (h : ae_CK g se ce b cl cf) (hs : se ≤ le) : ae_CK (ae_up g (le + 1) e) se ce b cl cf := by
  refine ⟨h.1, h.2.1, h.2.2.1, fun t ht => ?_⟩
  have h1 := h.1
  rw [ae_LLcong ce (fun n n0 n1 => ae_un (by omega))]
  exact h.2.2.2 t ht
/-- the path from n is of t's present run -/
def ae_ptht (g : Nat → ae_E) (le t n : Nat) : Prop := ∀ m, ae_rc g n m → m ≠ 0 → (g m).2.1 = t ∧ ∀ m', m ≤ m' → m' ≤ le → (g m').2.1 = t → (g m').1 < 2
theorem ae_pthapp {g : Nat → ae_E} {le t n : Nat} {e : ae_E} (h : ae_ptht g le t n) (hn : n ≤ le) (he : e.2.1 = t → e.1 < 2) : ae_ptht (ae_up g (le + 1) e) (le + 1) t n := by
  intro m hr h0
  have hr' : ae_rc g n m := ae_rccong n (fun m m0 m1 => (ae_un (by omega)).symm) hr
  have hm := ae_rcle n hr'
  have q := h m hr' h0
  rw [ae_un (by omega)]
  refine ⟨q.1, fun m' a1 a2 a3 => ?_⟩
  by_cases z : m' = le + 1
  · rw [z, ae_us] at a3 ⊢
    exact he a3
  · rw [ae_un z] at a3 ⊢
    exact q.2 m' a1 (by omega) a3
theorem ae_pthnew {g : Nat → ae_E} {le t : Nat} {e : ae_E} (h : ae_ptht g le t e.2.2.2.2.2) (hn : e.2.2.2.2.2 ≤ le) (he : e.1 < 2) (het : e.2.1 = t) : ae_ptht (ae_up g (le + 1) e) (le + 1) t (le + 1) := by
  intro m hr h0
  cases ae_rci hr with
  | inl z =>
    rw [← z, ae_us]
    refine ⟨het, fun m' a1 a2 a3 => ?_⟩
    rw [show m' = le + 1 by omega, ae_us]
    exact he
  | inr z =>
    have z2 := z.2
    rw [ae_us] at z2
    exact ae_pthapp h hn (fun _ => he) m z2 h0
theorem ae_rcapp {g : Nat → ae_E} {le n m : Nat} {e : ae_E} (h : ae_rc g n m) (hn : n ≤ le) : ae_rc (ae_up g (le + 1) e) n m := ae_rccong n (fun m m0 m1 => ae_un (by omega)) h
theorem ae_rcnew {g : Nat → ae_E} {le m : Nat} {e : ae_E} (h : ae_rc g e.2.2.2.2.2 m) (hn : e.2.2.2.2.2 ≤ le) : ae_rc (ae_up g (le + 1) e) (le + 1) m := by
  refine ae_rcs (by rw [ae_us]; omega) ?_
  rw [ae_us]
  exact ae_rcapp h hn
/-- one transaction -/
def ae_T1 (g : Nat → ae_E) (le : Nat) (ru he wr la ma : Nat → Nat) (sk : Nat → List (Nat × Nat)) (mk : Nat → Nat) (t : Nat) : Prop :=
  la t ≤ le ∧ ma t ≤ 300 ∧ ru t ≤ 1 ∧ ae_LL g le t = (if ru t = 0 then 0 else la t) ∧ sk t = ae_ch g (ae_LL g le t) ∧ wr t ≤ 20 ∧ he t < 65536 ∧
  (∀ e, e ∈ sk t → e.1 < 16 ∧ (he t).testBit e.1 = true) ∧ (sk t).length ≤ wr t ∧
  (ru t ≠ 0 → ae_ptht g le t (la t) ∧ ae_rc g (la t) (ma t) ∧ mk t = (ae_ch g (ma t)).length ∧ ae_CN g le t + (sk t).length ≤ 2 * wr t)
theorem ae_CNapp_o {g : Nat → ae_E} {s t : Nat} {e : ae_E} (h : e.2.1 ≠ t) : ae_CN (ae_up g (s + 1) e) (s + 1) t = ae_CN g s t := by
  rw [ae_CNs, ae_us, if_neg h, ae_CNcong s ae_old]
theorem ae_CNapp_d {g : Nat → ae_E} {s t : Nat} {e : ae_E} (h : e.2.1 = t) (h2 : e.1 < 2) : ae_CN (ae_up g (s + 1) e) (s + 1) t = ae_CN g s t + 1 := by
  rw [ae_CNs, ae_us, if_pos h, if_pos h2, ae_CNcong s ae_old]
theorem ae_CNz {g : Nat → ae_E} {t : Nat} : ∀ s, ae_LL g s t = 0 → ae_CN g s t = 0
  | 0, _ => rfl
  | s + 1, h => by
    rw [ae_LLs] at h
    rw [ae_CNs]
    by_cases e : (g (s + 1)).2.1 = t
    · rw [if_pos e] at h ⊢
      by_cases e2 : (g (s + 1)).1 < 2
      · rw [if_pos e2] at h
        omega
      · rw [if_neg e2]
    · rw [if_neg e] at h ⊢
      exact ae_CNz s h
/-- one more entry, of another -/
theorem ae_T1o {g : Nat → ae_E} {le u : Nat} {ru he wr la ma mk ru' he' wr' la' ma' mk' : Nat → Nat} {sk sk' : Nat → List (Nat × Nat)} {e : ae_E} (h : ae_T1 g le ru he wr la ma sk mk u) (hu : e.2.1 ≠ u)
    (e1 : ru' u = ru u) (e2 : he' u = he u) (e3 : wr' u = wr u) (e4 : la' u = la u) (e5 : ma' u = ma u) (e6 : sk' u = sk u) (e7 : mk' u = mk u) : ae_T1 (ae_up g (le + 1) e) (le + 1) ru' he' wr' la' ma' sk' mk' u := by
  obtain ⟨h1, h2, h3, h4, h5, h6, h7, h8, h9, h10⟩ := h
  unfold ae_T1
  rw [e1, e2, e3, e4, e5, e6, e7, ae_LLapp_o hu, ae_chapp (ae_LLle le), ae_CNapp_o hu]
  refine ⟨by omega, h2, h3, h4, h5, h6, h7, h8, h9, fun hr => ?_⟩
  obtain ⟨a, b, c, d⟩ := h10 hr
  have m1 := ae_rcle _ b
  refine ⟨ae_pthapp a h1 (fun z => absurd z hu), ae_rcapp b h1, ?_, d⟩
  rw [ae_chapp (by omega)]
  exact c
/-- nothing new in the log -/
theorem ae_T1s {g : Nat → ae_E} {le u : Nat} {ru he wr la ma mk ru' he' wr' la' ma' mk' : Nat → Nat} {sk sk' : Nat → List (Nat × Nat)} (h : ae_T1 g le ru he wr la ma sk mk u)
    (e1 : ru' u = ru u) (e2 : he' u = he u) (e3 : wr' u = wr u) (e4 : la' u = la u) (e5 : ma' u = ma u) (e6 : sk' u = sk u) (e7 : mk' u = mk u) : ae_T1 g le ru' he' wr' la' ma' sk' mk' u := by
  unfold ae_T1 at h ⊢
  rw [e1, e2, e3, e4, e5, e6, e7]
  exact h
/-- locks of two running transactions differ -/
def ae_DJ (ru he : Nat → Nat) : Prop := ∀ t u, t < 3 → u < 3 → t ≠ u → ru t ≠ 0 → ru u ≠ 0 → ∀ c, (he t).testBit c = true → ¬ (he u).testBit c = true
def ae_TX (g : Nat → ae_E) (le : Nat) (ru he wr la ma : Nat → Nat) (sk : Nat → List (Nat × Nat)) (mk : Nat → Nat) : Prop := ae_VL g le ∧ ae_LK g le ru he ∧ ae_DJ ru he ∧ ∀ t, t < 3 → ae_T1 g le ru he wr la ma sk mk t
theorem ae_kpapp {g : Nat → ae_E} {le n : Nat} {ru : Nat → Nat} {e : ae_E} (hn : n ≤ le) (h : ae_kp (ae_up g (le + 1) e) (le + 1) ru n) : ae_kp g le ru n := by
  obtain ⟨a, b⟩ := h
  rw [ae_un (by omega)] at a
  refine ⟨a, fun m m1 m2 m3 => ?_⟩
  have q := b m m1 (by omega)
  rw [ae_un (by omega), ae_un (by omega)] at q
  exact q m3
theorem ae_LKd {g : Nat → ae_E} {le t : Nat} {ru he he' : Nat → Nat} {e : ae_E} (hv : ae_VL g le) (h : ae_LK g le ru he) (het : e.2.1 = t) (hb : (he' t).testBit e.2.2.1 = true) (hm : ∀ u c, (he u).testBit c = true → (he' u).testBit c = true)
    (hx : ∀ u, u < 3 → u ≠ t → ru u ≠ 0 → ¬ (he u).testBit e.2.2.1 = true) : ae_LK (ae_up g (le + 1) e) (le + 1) ru he' := by
  intro n n0 n1 hk
  by_cases z : n = le + 1
  · rw [z, ae_us]
    refine ⟨by rw [het]; exact hb, fun m m1 m2 => absurd m1 (by omega)⟩
  · have k := ae_kpapp (by omega) hk
    have q := h n n0 (by omega) k
    rw [ae_un z]
    refine ⟨hm _ _ q.1, fun m m1 m2 m3 m4 => ?_⟩
    by_cases y : m = le + 1
    · rw [y, ae_us] at m4 ⊢
      refine Classical.byContradiction (fun w => ?_)
      have v := hv n n0 (by omega)
      exact hx (g n).2.1 v.2.1 (fun x => w (by rw [x, het])) k.1 (by rw [m4]; exact q.1)
    · rw [ae_un y] at m3 m4 ⊢
      exact q.2 m m1 (by omega) m3 m4
theorem ae_LKe {g : Nat → ae_E} {le t : Nat} {ru ru' he : Nat → Nat} {e : ae_E} (h : ae_LK g le ru he) (he2 : ¬ e.1 < 2) (hru : ∀ u, ru' u ≠ 0 → ru u ≠ 0) : ae_LK (ae_up g (le + 1) e) (le + 1) ru' he := by
  intro n n0 n1 hk
  by_cases z : n = le + 1
  · have := hk.2 n (Nat.le_refl _) n1 rfl
    rw [z, ae_us] at this
    exact absurd this he2
  · have k' := ae_kpapp (by omega) hk
    have k : ae_kp g le ru n := ⟨hru _ k'.1, k'.2⟩
    have q := h n n0 (by omega) k
    rw [ae_un z]
    refine ⟨q.1, fun m m1 m2 m3 m4 => ?_⟩
    by_cases y : m = le + 1
    · rw [y, ae_us] at m3
      exact absurd m3 he2
    · rw [ae_un y] at m3 m4 ⊢
      exact q.2 m m1 (by omega) m3 m4
/-- the chain of a transaction that does not run -/
theorem ae_T1n {g : Nat → ae_E} {le u : Nat} {ru he wr la ma mk : Nat → Nat} {sk : Nat → List (Nat × Nat)} (h : ae_T1 g le ru he wr la ma sk mk u) (hr : ru u = 0) : sk u = [] ∧ ae_LL g le u = 0 := by
  have h4 := h.2.2.2.1
  rw [if_pos hr] at h4
  have h5 := h.2.2.2.2.1
  rw [h4, ae_ch0] at h5
  exact ⟨h5, h4⟩
theorem ae_T1r {g : Nat → ae_E} {le u : Nat} {ru he wr la ma mk : Nat → Nat} {sk : Nat → List (Nat × Nat)} (h : ae_T1 g le ru he wr la ma sk mk u) (hr : ru u ≠ 0) : sk u = ae_ch g (la u) ∧ ae_LL g le u = la u := by
  have h4 := h.2.2.2.1
  rw [if_neg hr] at h4
  have h5 := h.2.2.2.2.1
  rw [h4] at h5
  exact ⟨h5, h4⟩
theorem ae_DJsk {g : Nat → ae_E} {le t : Nat} {ru he wr la ma mk : Nat → Nat} {sk : Nat → List (Nat × Nat)} (h : ae_TX g le ru he wr la ma sk mk) {c : Nat} (hx : ∀ u, u < 3 → u ≠ t → ru u ≠ 0 → ¬ (he u).testBit c = true) : ∀ u, u < 3 → u ≠ t → ∀ e, e ∈ sk u → e.1 ≠ c := by
  intro u hu ht e he' z
  have q := h.2.2.2 u hu
  by_cases r : ru u = 0
  · rw [(ae_T1n q r).1] at he'
    exact absurd he' List.not_mem_nil
  · exact hx u hu ht r (by rw [← z]; exact (q.2.2.2.2.2.2.2.1 e he').2)
theorem ae_skL {g : Nat → ae_E} {le : Nat} {ru he wr la ma mk : Nat → Nat} {sk : Nat → List (Nat × Nat)} (h : ae_TX g le ru he wr la ma sk mk) {u : Nat} (hu : u < 3) : ae_ch g (ae_LL g le u) = sk u := (h.2.2.2 u hu).2.2.2.2.1.symm
/-- room -/
theorem ae_TXF {g : Nat → ae_E} {le : Nat} {ru he wr la ma mk : Nat → Nat} {sk : Nat → List (Nat × Nat)} (h : ae_TX g le ru he wr la ma sk mk) (hl : le ≤ 201) : ae_F g le ≤ 264 := by
  have p : ∀ t, t < 3 → ae_ph g le t ≤ 21 := by
    intro t ht
    have q := h.2.2.2 t ht
    unfold ae_ph
    rw [ae_skL h ht]
    have a := q.2.2.2.2.2.1
    have b := q.2.2.2.2.2.2.2.2.1
    split
    · omega
    · omega
  have p0 := p 0 (by omega)
  have p1 := p 1 (by omega)
  have p2 := p 2 (by omega)
  unfold ae_F
  omega
/-- an update by t -/
theorem ae_TXu {g : Nat → ae_E} {le t c old v : Nat} {ru he wr la ma mk : Nat → Nat} {sk : Nat → List (Nat × Nat)} (h : ae_TX g le ru he wr la ma sk mk) (ht : t < 3) (hr : ru t ≠ 0) (hc : c < 16) (hw : wr t < 20)
    (hx : ∀ u, u < 3 → u ≠ t → ru u ≠ 0 → ¬ (he u).testBit c = true) :
    ae_TX (ae_up g (le + 1) (0, t, c, old, v, la t)) (le + 1) ru (ae_up he t (he t ||| 2 ^ c)) (ae_up wr t (wr t + 1)) (ae_up la t (le + 1)) ma (ae_up sk t ((c, old) :: sk t)) mk := by
  obtain ⟨hv, hk, hd, ht1⟩ := h
  obtain ⟨h1, h2, h3, h4, h5, h6, h7, h8, h9, h10⟩ := ht1 t ht
  have sr := ae_T1r (ht1 t ht) hr
  obtain ⟨a, b, cc, d⟩ := h10 hr
  have m1 := ae_rcle _ b
  have bm : ∀ u x, (he u).testBit x = true → (ae_up he t (he t ||| 2 ^ c) u).testBit x = true := by
    intro u x hx'
    by_cases z : u = t
    · rw [z] at hx' ⊢
      rw [ae_us, Nat.testBit_or, hx', Bool.true_or]
    · rw [ae_un z]
      exact hx'
  have bc : (he t ||| 2 ^ c).testBit c = true := by
    rw [Nat.testBit_or, Nat.testBit_two_pow_self, Bool.or_true]
  refine ⟨ae_VLapp hv (by show (0 : Nat) < 4; omega) ht hc (by show la t < le + 1; omega), ae_LKd hv hk rfl (by rw [ae_us]; exact bc) bm hx, ?_, fun u hu => ?_⟩
  · intro x y hx' hy' hxy rx ry z hz hz2
    have key : ∀ x y, x < 3 → y < 3 → x ≠ y → ru x ≠ 0 → ru y ≠ 0 → x = t → (ae_up he t (he t ||| 2 ^ c) x).testBit z = true → ¬ (ae_up he t (he t ||| 2 ^ c) y).testBit z = true := by
      intro x y hx' hy' hxy rx ry xt hz hz2
      rw [xt, ae_us, Nat.testBit_or, Nat.testBit_two_pow] at hz
      rw [ae_un (by omega)] at hz2
      by_cases w : c = z
      · exact hx y hy' (by omega) ry (by rw [w]; exact hz2)
      · rw [decide_eq_false w, Bool.or_false] at hz
        exact hd x y hx' hy' hxy rx ry z (by rw [xt]; exact hz) hz2
    by_cases xt : x = t
    · exact key x y hx' hy' hxy rx ry xt hz hz2
    · by_cases yt : y = t
      · exact key y x hy' hx' (fun w => hxy w.symm) ry rx yt hz2 hz
      · rw [ae_un xt] at hz
        rw [ae_un yt] at hz2
        exact hd x y hx' hy' hxy rx ry z hz hz2
  · by_cases z : u = t
    · rw [z]
      unfold ae_T1
      rw [ae_us, ae_us, ae_us, ae_us, if_neg hr, ae_LLapp_d (t := t) rfl (by show (0 : Nat) < 2; omega), ae_CNapp_d (t := t) rfl (by show (0 : Nat) < 2; omega), ae_chapp_u rfl h1]
      refine ⟨Nat.le_refl _, h2, h3, rfl, ?_, by omega, ?_, fun e he' => ?_, ?_, fun _ => ⟨ae_pthnew a h1 (by show (0 : Nat) < 2; omega) rfl, ae_rcnew b h1, ?_, ?_⟩⟩
      · rw [sr.1]
      · exact Nat.or_lt_two_pow (n := 16) h7 (Nat.lt_of_le_of_lt (Nat.pow_le_pow_right (by omega) (show c ≤ 15 by omega)) (by decide))
      · cases List.mem_cons.mp he' with
        | inl q =>
          rw [q]
          exact ⟨hc, bc⟩
        | inr q =>
          have w := h8 e q
          refine ⟨w.1, ?_⟩
          rw [Nat.testBit_or, w.2, Bool.true_or]
      · rw [List.length_cons]
        omega
      · rw [ae_chapp (by omega)]
        exact cc
      · rw [List.length_cons]
        omega
    · exact ae_T1o (ht1 u hu) (fun w => z w.symm) rfl (ae_un z) (ae_un z) (ae_un z) rfl (ae_un z) rfl
/-- an undoing by t -/
theorem ae_TXc {g : Nat → ae_E} {le t n x : Nat} {ru he wr la ma mk : Nat → Nat} {sk : Nat → List (Nat × Nat)} (h : ae_TX g le ru he wr la ma sk mk) (ht : t < 3) (hr : ru t ≠ 0) (hn0 : 0 < n) (hn : n ≤ le) (hs : (g n).1 = 0)
    (hp : ae_rc g (la t) n) (hq : ae_rc g n (ma t)) (hne : n ≠ ma t) (hch : sk t = ae_ch g n) :
    ae_TX (ae_up g (le + 1) (1, t, (g n).2.2.1, 0, x, (g n).2.2.2.2.2)) (le + 1) ru he wr (ae_up la t (le + 1)) ma (ae_up sk t (ae_ch g (g n).2.2.2.2.2)) mk := by
  have h0 := h
  obtain ⟨hv, hk, hd, ht1⟩ := h
  obtain ⟨h1, h2, h3, h4, h5, h6, h7, h8, h9, h10⟩ := ht1 t ht
  have v := hv n hn0 hn
  obtain ⟨a, b, cc, d⟩ := h10 hr
  have m1 := ae_rcle _ b
  have hch' := hch
  rw [ae_chu v.2.2.2 hs] at hch'
  have inn := h8 ((g n).2.2.1, (g n).2.2.2.1) (by rw [hch']; exact List.mem_cons_self)
  have len : (sk t).length = (ae_ch g (g n).2.2.2.2.2).length + 1 := by rw [hch', List.length_cons]
  have q2 : ae_rc g (g n).2.2.2.2.2 (ma t) := by
    cases ae_rci hq with
    | inl z => exact absurd z hne
    | inr z => exact z.2
  have hx : ∀ u, u < 3 → u ≠ t → ru u ≠ 0 → ¬ (he u).testBit (g n).2.2.1 = true := fun u hu hut ru' => hd t u ht hu (fun z => hut z.symm) hr ru' _ inn.2
  refine ⟨ae_VLapp hv (by show (1 : Nat) < 4; omega) ht v.2.2.1 (by show (g n).2.2.2.2.2 < le + 1; omega), ae_LKd hv hk rfl inn.2 (fun _ _ z => z) hx, hd, fun u hu => ?_⟩
  by_cases z : u = t
  · rw [z]
    unfold ae_T1
    rw [ae_us, ae_us, if_neg hr, ae_LLapp_d (t := t) rfl (by show (1 : Nat) < 2; omega), ae_CNapp_d (t := t) rfl (by show (1 : Nat) < 2; omega), ae_chapp_c (by show (1 : Nat) ≠ 0; omega) (by show (g n).2.2.2.2.2 ≤ le; omega)]
    refine ⟨Nat.le_refl _, h2, h3, rfl, rfl, h6, h7, fun e he' => h8 e (by rw [hch']; exact List.mem_cons_of_mem _ he'), by omega, fun _ => ⟨ae_pthnew (fun m hm m0 => a m (ae_rctr (ae_rcs v.2.2.2 hm) _ hp) m0) (by show (g n).2.2.2.2.2 ≤ le; omega) (by show (1 : Nat) < 2; omega) rfl, ae_rcnew q2 (by show (g n).2.2.2.2.2 ≤ le; omega), ?_, by omega⟩⟩
    rw [ae_chapp (by omega)]
    exact cc
  · exact ae_T1o (ht1 u hu) (fun w => z w.symm) rfl rfl rfl (ae_un z) rfl (ae_un z) rfl
/-- t's run ends -/
theorem ae_TXe {g : Nat → ae_E} {le t : Nat} {e : ae_E} {ru he wr la ma mk : Nat → Nat} {sk : Nat → List (Nat × Nat)} (h : ae_TX g le ru he wr la ma sk mk) (ht : t < 3) (het : e.2.1 = t) (he1 : ¬ e.1 < 2) (he4 : e.1 < 4) (hec : e.2.2.1 < 16) (hel : e.2.2.2.2.2 ≤ le) :
    ae_TX (ae_up g (le + 1) e) (le + 1) (ae_up ru t 0) he wr (ae_up la t (le + 1)) ma (ae_up sk t []) mk := by
  obtain ⟨hv, hk, hd, ht1⟩ := h
  have ru2 : ∀ u, ae_up ru t 0 u ≠ 0 → ru u ≠ 0 ∧ u ≠ t := by
    intro u hu
    by_cases z : u = t
    · rw [z, ae_us] at hu
      exact absurd rfl hu
    · rw [ae_un z] at hu
      exact ⟨hu, z⟩
  refine ⟨ae_VLapp hv he4 (by rw [het]; exact ht) hec (by omega), ae_LKe (t := t) hk he1 (fun u hu => (ru2 u hu).1), fun x y hx hy hxy rx ry => hd x y hx hy hxy (ru2 x rx).1 (ru2 y ry).1, fun u hu => ?_⟩
  by_cases z : u = t
  · rw [z]
    obtain ⟨h1, h2, h3, h4, h5, h6, h7, h8, h9, h10⟩ := ht1 t ht
    unfold ae_T1
    rw [ae_us, ae_us, ae_us, if_pos rfl, ae_LLapp_e het he1, ae_ch0]
    exact ⟨Nat.le_refl _, h2, by omega, rfl, rfl, h6, h7, fun e he' => absurd he' List.not_mem_nil, by rw [List.length_nil]; omega, fun w => absurd rfl w⟩
  · exact ae_T1o (ht1 u hu) (fun w => z (w.symm.trans het)) (ae_un z) rfl rfl (ae_un z) rfl (ae_un z) rfl
/-- t's run begins -/
theorem ae_TXb {g : Nat → ae_E} {le t : Nat} {ru he wr la ma mk : Nat → Nat} {sk : Nat → List (Nat × Nat)} (h : ae_TX g le ru he wr la ma sk mk) (ht : t < 3) (hr : ru t = 0) :
    ae_TX g le (ae_up ru t 1) (ae_up he t 0) (ae_up wr t 0) (ae_up la t 0) (ae_up ma t 0) (ae_up sk t []) (ae_up mk t 0) := by
  obtain ⟨hv, hk, hd, ht1⟩ := h
  have tn := ae_T1n (ht1 t ht) hr
  refine ⟨hv, ?_, ?_, fun u hu => ?_⟩
  · intro n n0 n1 kk
    by_cases z : (g n).2.1 = t
    · obtain ⟨m, a, b, c, d⟩ := ae_LLnone le tn.2 n n0 n1 z
      exact absurd (kk.2 m a b (c.trans z.symm)) d
    · have k : ae_kp g le ru n := ⟨by have := kk.1; rw [ae_un z] at this; exact this, kk.2⟩
      rw [ae_un z]
      exact hk n n0 n1 k
  · intro x y hx hy hxy rx ry c hc hc2
    by_cases xt : x = t
    · rw [xt, ae_us, Nat.zero_testBit] at hc
      exact absurd hc (by decide)
    · by_cases yt : y = t
      · rw [yt, ae_us, Nat.zero_testBit] at hc2
        exact absurd hc2 (by decide)
      · rw [ae_un xt] at rx hc
        rw [ae_un yt] at ry hc2
        exact hd x y hx hy hxy rx ry c hc hc2
  · by_cases z : u = t
    · rw [z]
      obtain ⟨h1, h2, h3, h4, h5, h6, h7, h8, h9, h10⟩ := ht1 t ht
      have cn0 : ae_CN g le t = 0 := ae_CNz le tn.2
      unfold ae_T1
      rw [ae_us, ae_us, ae_us, ae_us, ae_us, ae_us, ae_us, tn.2, ae_ch0, cn0]
      refine ⟨by omega, by omega, by omega, by rw [if_neg (by omega)], rfl, by omega, by omega, fun e he' => absurd he' List.not_mem_nil, by rw [List.length_nil]; omega, fun _ => ⟨fun m hm m0 => ?_, ae_rcr, rfl, by rw [List.length_nil]; omega⟩⟩
      have := ae_rcle 0 hm
      omega
    · exact ae_T1s (ht1 u hu) (ae_un z) (ae_un z) (ae_un z) (ae_un z) (ae_un z) (ae_un z) (ae_un z)
/-- a mark -/
theorem ae_TXm {g : Nat → ae_E} {le t : Nat} {ru he wr la ma mk : Nat → Nat} {sk : Nat → List (Nat × Nat)} (h : ae_TX g le ru he wr la ma sk mk) (hle : le ≤ 300) (ht : t < 3) (hr : ru t ≠ 0) :
    ae_TX g le ru he wr la (ae_up ma t (la t)) sk (ae_up mk t (sk t).length) := by
  obtain ⟨hv, hk, hd, ht1⟩ := h
  refine ⟨hv, hk, hd, fun u hu => ?_⟩
  by_cases z : u = t
  · rw [z]
    obtain ⟨h1, h2, h3, h4, h5, h6, h7, h8, h9, h10⟩ := ht1 t ht
    have sr := ae_T1r (ht1 t ht) hr
    unfold ae_T1
    rw [ae_us, ae_us]
    refine ⟨h1, by omega, h3, h4, h5, h6, h7, h8, h9, fun hr => ?_⟩
    obtain ⟨a, b, cc, d⟩ := h10 hr
    exact ⟨a, ae_rcr, by rw [sr.1], d⟩
  · exact ae_T1s (ht1 u hu) rfl rfl rfl rfl (ae_un z) rfl (ae_un z)
end
section
/-! the engine in normal running: one bundle, its changes, no program in sight -/
def ae_X (N : Nat) (V cur num fst : Nat → Nat) (sk : Nat → List (Nat × Nat)) (mk : Nat → Nat) (se ce le fc hd : Nat) (dc dn cl cf : Nat → Nat) (g : Nat → ae_E) (mv pi fe fn fh ru he wr la ma Z : Nat → Nat) (b : Nat) : Prop :=
  ae_PL fc hd pi fe fn fh dc dn cur num fst ∧ ae_NB True g Z se le b dc dn cur num fst ∧ ae_WS g Z se le V ∧ ae_CK g se ce b cl cf ∧ (∀ j, mv j ≤ 300) ∧ le ≤ N ∧ N ≤ 201 ∧ ae_TX g le ru he wr la ma sk mk
section
variable {se ce le fc hd st : Nat} {dc dn cl cf mv pi fe fn fh ru he wr la ma cur num fst : Nat → Nat} {g : Nat → ae_E} {N b : Nat} {V Z mk : Nat → Nat} {sk : Nat → List (Nat × Nat)}
theorem ae_Xfl {hd' se' : Nat} {pi' fe' fn' fh' dc' dn' fst' : Nat → Nat} (h : (ae_X N V cur num fst sk mk se ce le fc hd dc dn cl cf g mv pi fe fn fh ru he wr la ma Z b)) (f : ae_FL cur num se dc dn fst se' dc' dn' fst') (p : ae_PL fc hd' pi' fe' fn' fh' dc' dn' cur num fst') :
    (ae_X N V cur num fst' sk mk se' ce le fc hd' dc' dn' cl cf g mv pi' fe' fn' fh' ru he wr la ma Z b) := by
  obtain ⟨h1, h2, h3, h4, h5, h6, h7, h8⟩ := h
  exact ⟨p, ae_NBfl h2 f, ae_WSse h3 f.1, ae_CKse h4 f.1, h5, h6, h7, h8⟩
theorem ae_XN {N' : Nat} (h : (ae_X N V cur num fst sk mk se ce le fc hd dc dn cl cf g mv pi fe fn fh ru he wr la ma Z b)) (h1 : le ≤ N') (h2 : N' ≤ 201) : (ae_X N' V cur num fst sk mk se ce le fc hd dc dn cl cf g mv pi fe fn fh ru he wr la ma Z b) := by
  obtain ⟨a1, a2, a3, a4, a5, a6, a7, a8⟩ := h
  exact ⟨a1, a2, a3, a4, a5, h1, h2, a8⟩
theorem ae_Wle {c : Nat} (h : (ae_X N V cur num fst sk mk se ce le fc hd dc dn cl cf g mv pi fe fn fh ru he wr la ma Z b)) (hc : c < 16) : ae_W3 cur sk c = V c := by
  obtain ⟨h1, h2, h3, h4, h5, h6, h7, h8⟩ := h
  have w := (h3 le h2.1 (Nat.le_refl _)).1 c hc
  rw [← w]
  exact ae_W3c (h2.2.2.2.1 c hc) (fun t ht => (ae_skL h8 ht).symm)
/-- a write by t, behind bringIn -/
theorem ae_Xu {N' t c v : Nat} {pi' fe' fn' fh' : Nat → Nat} (h : (ae_X N V cur num fst sk mk se ce le fc hd dc dn cl cf g mv pi fe fn fh ru he wr la ma Z b)) (ht : t < 3) (hr : ru t ≠ 0) (hc : c < 16) (hw : wr t < 20) (hx : ∀ u, u < 3 → u ≠ t → ru u ≠ 0 → ¬ (he u).testBit c = true) (hN : le < N') (hN2 : N' ≤ 201)
    (p : ae_PL fc hd pi' fe' fn' fh' dc dn (ae_up cur c v) (ae_up num (c / 4) (le + 1)) (ae_dirt fst (c / 4) (le + 1))) (hcl : ae_cln dc cur fst) :
    (ae_X N' V (ae_up cur c v) (ae_up num (c / 4) (le + 1)) (ae_dirt fst (c / 4) (le + 1)) (ae_up sk t ((c, cur c) :: sk t)) mk se ce (le + 1) fc hd dc dn cl cf (ae_up g (le + 1) (0, t, c, cur c, v, la t)) mv pi' fe' fn' fh' ru (ae_up he t (he t ||| 2 ^ c)) (ae_up wr t (wr t + 1)) (ae_up la t (le + 1)) ma Z b) := by
  obtain ⟨h1, h2, h3, h4, h5, h6, h7, h8⟩ := h
  have tx := ae_TXu (old := cur c) (v := v) h8 ht hr hc hw hx
  have cR := h2.2.2.2.1 c hc
  have lL := (ae_T1r (h8.2.2.2 t ht) hr).2
  refine ⟨p, ae_NBapp h2 (by show (0 : Nat) < 2; omega) (fun z i hi => hcl _ (by show c / 4 < 4; omega) z i hi), ae_WSapp h3 (fun d hd => ?_) (ae_TXF tx (by omega)), ae_CKapp h4 h2.1, h5, by omega, hN2, tx⟩
  rw [cR, ← lL, ae_Wupd ht (fun u hu hut => by rw [ae_skL h8 hu]; exact ae_DJsk h8 hx u hu hut)]
  exact (h3 le h2.1 (Nat.le_refl _)).1 d hd
/-- one undoing by t, behind bringIn -/
theorem ae_Xc {N' t n : Nat} {pi' fe' fn' fh' : Nat → Nat} (h : (ae_X N V cur num fst sk mk se ce le fc hd dc dn cl cf g mv pi fe fn fh ru he wr la ma Z b)) (ht : t < 3) (hr : ru t ≠ 0) (hn0 : 0 < n) (hn : n ≤ le) (hs : (g n).1 = 0) (hp : ae_rc g (la t) n) (hq : ae_rc g n (ma t)) (hne : n ≠ ma t) (hch : sk t = ae_ch g n) (hN : le < N') (hN2 : N' ≤ 201)
    (p : ae_PL fc hd pi' fe' fn' fh' dc dn (ae_up cur (g n).2.2.1 (g n).2.2.2.1) (ae_up num ((g n).2.2.1 / 4) (le + 1)) (ae_dirt fst ((g n).2.2.1 / 4) (le + 1))) (hcl : ae_cln dc cur fst) :
    (ae_X N' V (ae_up cur (g n).2.2.1 (g n).2.2.2.1) (ae_up num ((g n).2.2.1 / 4) (le + 1)) (ae_dirt fst ((g n).2.2.1 / 4) (le + 1)) (ae_up sk t (ae_ch g (g n).2.2.2.2.2)) mk se ce (le + 1) fc hd dc dn cl cf (ae_up g (le + 1) (1, t, (g n).2.2.1, 0, (g n).2.2.2.1, (g n).2.2.2.2.2)) mv pi' fe' fn' fh' ru he wr (ae_up la t (le + 1)) ma Z b) := by
  obtain ⟨h1, h2, h3, h4, h5, h6, h7, h8⟩ := h
  have tx := ae_TXc (x := (g n).2.2.2.1) h8 ht hr hn0 hn hs hp hq hne hch
  have v := h8.1 n hn0 hn
  have q := h8.2.2.2 t ht
  have hch' := hch
  rw [ae_chu v.2.2.2 hs] at hch'
  have inn := q.2.2.2.2.2.2.2.1 ((g n).2.2.1, (g n).2.2.2.1) (by rw [hch']; exact List.mem_cons_self)
  have hx : ∀ u, u < 3 → u ≠ t → ru u ≠ 0 → ¬ (he u).testBit (g n).2.2.1 = true := fun u hu hut ru' => h8.2.2.1 t u ht hu (fun z => hut z.symm) hr ru' _ inn.2
  refine ⟨p, ae_NBapp h2 (by show (1 : Nat) < 2; omega) (fun z i hi => hcl _ (by show (g n).2.2.1 / 4 < 4; omega) z i hi), ae_WSapp h3 (fun d hd => ?_) (ae_TXF tx (by omega)), ae_CKapp h4 h2.1, h5, by omega, hN2, tx⟩
  rw [ae_Wclr ht hn hs v.2.2.2 (by rw [ae_skL h8 ht]; exact hch) (fun u hu => by rw [ae_skL h8 (by omega)]; exact ae_DJsk h8 hx u (by omega) (by omega))]
  exact (h3 le h2.1 (Nat.le_refl _)).1 d hd
/-- an end, all being taken back -/
theorem ae_Xe {N' t : Nat} (h : (ae_X N V cur num fst sk mk se ce le fc hd dc dn cl cf g mv pi fe fn fh ru he wr la ma Z b)) (ht : t < 3) (hs : sk t = []) (hN : le < N') (hN2 : N' ≤ 201) :
    (ae_X N' V cur num fst (ae_up sk t []) mk se ce (le + 1) fc hd dc dn cl cf (ae_up g (le + 1) (3, t, 0, 0, 0, la t)) mv pi fe fn fh (ae_up ru t 0) he wr (ae_up la t (le + 1)) ma Z b) := by
  obtain ⟨h1, h2, h3, h4, h5, h6, h7, h8⟩ := h
  have tx := ae_TXe (e := (3, t, 0, 0, 0, la t)) h8 ht rfl (by show ¬ (3 : Nat) < 2; omega) (by show (3 : Nat) < 4; omega) (by show (0 : Nat) < 16; omega) (h8.2.2.2 t ht).1
  refine ⟨h1, ae_NBend h2 (by show ¬ (3 : Nat) < 2; omega), ae_WSapp h3 (fun d hd => ?_) (ae_TXF tx (by omega)), ae_CKapp h4 h2.1, h5, by omega, hN2, tx⟩
  rw [ae_Wend (t := t) (by show ¬ (3 : Nat) < 2; omega) rfl (by rw [ae_skL h8 ht]; exact hs)]
  exact (h3 le h2.1 (Nat.le_refl _)).1 d hd
theorem ae_W3d {r : Nat → Nat} {L L' : Nat → List (Nat × Nat)} {c t : Nat} (ht : t < 3) (hL : ∀ u, u < 3 → u ≠ t → L' u = L u) (h0 : L' t = []) (ho : ∀ e, e ∈ L t → e.1 ≠ c) : ae_W3 r L' c = ae_W3 r L c := by
  have ht3 : t = 0 ∨ t = 1 ∨ t = 2 := by omega
  unfold ae_W3
  rcases ht3 with rfl | rfl | rfl
  · rw [h0, hL 1 (by omega) (by omega), hL 2 (by omega) (by omega)]
    exact ae_udc _ _ _ (ae_udc _ _ _ (ae_udo _ _ ho).symm)
  · rw [h0, hL 0 (by omega) (by omega), hL 2 (by omega) (by omega)]
    exact ae_udc _ _ _ (ae_udo _ _ ho).symm
  · rw [h0, hL 0 (by omega) (by omega), hL 1 (by omega) (by omega)]
    exact (ae_udo _ _ ho).symm
def ae_cm (V cur : Nat → Nat) (m : Nat) : Nat → Nat := fun c => if m.testBit c = true then cur c else V c
/-- a commit -/
theorem ae_Xk {N' t : Nat} (h : (ae_X N V cur num fst sk mk se ce le fc hd dc dn cl cf g mv pi fe fn fh ru he wr la ma Z b)) (ht : t < 3) (hr : ru t ≠ 0) (hN : le < N') (hN2 : N' ≤ 201) :
    (ae_X N' (ae_cm V cur (he t)) cur num fst (ae_up sk t []) mk (le + 1) ce (le + 1) fc hd dc dn cl cf (ae_up g (le + 1) (2, t, 0, 0, 0, la t)) mv pi fe fn fh (ae_up ru t 0) he wr (ae_up la t (le + 1)) ma Z b) := by
  have hW : ∀ c, c < 16 → ae_W3 cur sk c = V c := fun c hc => ae_Wle h hc
  obtain ⟨h1, h2, h3, h4, h5, h6, h7, h8⟩ := h
  have tx := ae_TXe (e := (2, t, 0, 0, 0, la t)) h8 ht rfl (by show ¬ (2 : Nat) < 2; omega) (by show (2 : Nat) < 4; omega) (by show (0 : Nat) < 16; omega) (h8.2.2.2 t ht).1
  have nb := ae_NBend (e := (2, t, 0, 0, 0, la t)) h2 (by show ¬ (2 : Nat) < 2; omega)
  have sele := h2.1
  refine ⟨h1, ae_NBse nb (by omega) (Nat.le_refl _), ?_, ae_CKse (ae_CKapp h4 h2.1) (by omega), h5, by omega, hN2, tx⟩
  intro s hs1 hs2
  have : s = le + 1 := by omega
  rw [this]
  refine ⟨fun c hc => ?_, ae_TXF tx (by omega)⟩
  have e1 : ae_W (ae_up g (le + 1) (2, t, 0, 0, 0, la t)) Z (le + 1) c = ae_W3 cur (ae_up sk t []) c :=
    ae_W3c (nb.2.2.2.1 c hc).symm (fun u hu => ae_skL tx hu)
  rw [e1]
  unfold ae_cm
  by_cases z : (he t).testBit c = true
  · rw [if_pos z]
    refine ae_W3o (fun u hu e he' => ?_)
    by_cases y : u = t
    · rw [y, ae_us] at he'
      exact absurd he' List.not_mem_nil
    · rw [ae_un y] at he'
      exact ae_DJsk h8 (c := c) (t := t) (fun u hu hut ru' => h8.2.2.1 t u ht hu (fun z => hut z.symm) hr ru' _ z) u hu y e he'
  · rw [if_neg z, ← hW c hc]
    exact ae_W3d ht (fun u hu hut => ae_un hut) ae_us (fun e he' w => z (by rw [← w]; exact ((h8.2.2.2 t ht).2.2.2.2.2.2.2.1 e he').2))
theorem ae_Xb {t : Nat} (h : (ae_X N V cur num fst sk mk se ce le fc hd dc dn cl cf g mv pi fe fn fh ru he wr la ma Z b)) (ht : t < 3) (hr : ru t = 0) :
    (ae_X N V cur num fst (ae_up sk t []) (ae_up mk t 0) se ce le fc hd dc dn cl cf g mv pi fe fn fh (ae_up ru t 1) (ae_up he t 0) (ae_up wr t 0) (ae_up la t 0) (ae_up ma t 0) Z b) := by
  obtain ⟨h1, h2, h3, h4, h5, h6, h7, h8⟩ := h
  exact ⟨h1, h2, h3, h4, h5, h6, h7, ae_TXb h8 ht hr⟩
theorem ae_Xm {t : Nat} (h : (ae_X N V cur num fst sk mk se ce le fc hd dc dn cl cf g mv pi fe fn fh ru he wr la ma Z b)) (ht : t < 3) (hr : ru t ≠ 0) : (ae_X N V cur num fst sk (ae_up mk t (sk t).length) se ce le fc hd dc dn cl cf g mv pi fe fn fh ru he wr la (ae_up ma t (la t)) Z b) := by
  obtain ⟨h1, h2, h3, h4, h5, h6, h7, h8⟩ := h
  exact ⟨h1, h2, h3, h4, h5, h6, h7, ae_TXm h8 (by omega) ht hr⟩
/-- a checkpoint -/
theorem ae_Xck {cl' cf' : Nat → Nat} (h : (ae_X N V cur num fst sk mk se ce le fc hd dc dn cl cf g mv pi fe fn fh ru he wr la ma Z b)) (hcl : ∀ t, t < 3 → cl' t = if ru t = 0 then 0 else la t) (hcf : ∀ p, p < 4 → cf' p = fst p) : (ae_X N V cur num fst sk mk le le le fc hd dc dn cl' cf' g mv pi fe fn fh ru he wr la ma Z (ae_fr cf' (le + 1) 4 - 1)) := by
  obtain ⟨h1, h2, h3, h4, h5, h6, h7, h8⟩ := h
  have p0 := ae_frpos (cf := cf') (a := le + 1) (by omega) 4
  have p1 := ae_frle (cf := cf') (a := le + 1) 4
  refine ⟨h1, ae_NBck h2 (by omega) (fun p hp hz => ?_) (ae_PLc h1), ae_WSse h3 h2.1, ⟨Nat.le_refl _, by omega, fun p hp => ?_, fun t ht => ?_⟩, h5, h6, h7, h8⟩
  · have := ae_frcf (cf := cf') (a := le + 1) 4 p hp (by rw [hcf p hp]; exact hz)
    rw [hcf p hp] at this
    omega
  · rw [hcf p hp]
    exact (h1.2.2.2.2.2.2.2.2 p hp).2
  · rw [hcl t ht]
    exact (h8.2.2.2 t ht).2.2.2.1.symm
end
end
section
/-! the cleared log, and restarts: bundles, no program in sight -/
section
variable {se ce le fc hd st : Nat} {dc dn cl cf mv pi fe fn fh ru he wr la ma cur num fst : Nat → Nat} {g : Nat → ae_E} {N b : Nat} {V Z mk : Nat → Nat} {sk : Nat → List (Nat × Nat)}
theorem ae_PLcong {cur' : Nat → Nat} (h : ae_PL fc hd pi fe fn fh dc dn cur num fst) (hc : ∀ c, c < 16 → cur' c = cur c) : ae_PL fc hd pi fe fn fh dc dn cur' num fst := by
  obtain ⟨h1, h2, h3, h4, h5, h6, h7, h8, h9⟩ := h
  refine ⟨h1, h2, h3, h4, h5, fun f p hf e => ?_, h7, fun p hp z => ?_, h9⟩
  · have a := h6 f p hf e
    have b := h4 f hf
    refine ⟨fun i hi => ?_, a.2⟩
    rw [hc _ (by omega)]
    exact a.1 i hi
  · have a := h8 p hp z
    refine ⟨a.1, fun i hi => ?_⟩
    rw [hc _ (by omega)]
    exact a.2 i hi
/-- all pages written, all numbers forgotten -/
theorem ae_PLz {fn' fh' dn' : Nat → Nat} (h : ae_PL fc hd pi fe fn fh dc dn cur num fst) (hz : ∀ p, p < 4 → fst p = 0) (h1 : ∀ f, f < 3 → fn' f = 0) (h2 : ∀ f, f < 3 → fh' f = 0) (h3 : ∀ p, p < 4 → dn' p = 0) :
    ae_PL fc hd pi fe fn' fh' dc dn' cur (fun _ => 0) (fun _ => 0) := by
  obtain ⟨a1, a2, a3, a4, a5, a6, a7, a8, a9⟩ := h
  exact ⟨a1, a2, a3, a4, a5, fun f p hf e => ⟨(a6 f p hf e).1, h1 f (by omega), h2 f (by omega)⟩, fun _ _ _ => rfl, fun p hp _ => ⟨h3 p hp, (a8 p hp (hz p hp)).2⟩, fun _ _ => ⟨Nat.zero_le _, Nat.zero_le _⟩⟩
theorem ae_fr0 {cf' : Nat → Nat} (h : ∀ p, p < 4 → cf' p = 0) : ae_fr cf' (0 + 1) 4 = 0 + 1 := by
  have p0 := ae_frpos (cf := cf') (a := 0 + 1) (by omega) 4
  have p1 := ae_frle (cf := cf') (a := 0 + 1) 4
  omega
theorem ae_pthk {t n : Nat} (h : ae_ptht g le t n) (hr : ru t ≠ 0) : ae_pth g le ru n := by
  intro m hm h0
  have q := h m hm h0
  exact ⟨by rw [q.1]; exact hr, fun m' a b c => q.2 m' a b (c.trans q.1)⟩
theorem ae_Xroom {k : Nat} {g' : Nat → ae_E} {mv' fn' fh' dn' cl' cf' la' ma' : Nat → Nat} (h : (ae_X N V cur num fst sk mk se ce le fc hd dc dn cl cf g mv pi fe fn fh ru he wr la ma Z b)) (hz : ∀ p, p < 4 → fst p = 0) (ci : ae_CI g le ru le k g' mv') (hmv : ∀ j, mv' j ≤ 300)
    (hla : ∀ t, t < 3 → la' t = mv' (la t)) (hma : ∀ t, t < 3 → ma' t = mv' (ma t)) (h1 : ∀ f, f < 3 → fn' f = 0) (h2 : ∀ f, f < 3 → fh' f = 0) (h3 : ∀ p, p < 4 → dn' p = 0) (h4 : ∀ t, t < 3 → cl' t = 0) (h5 : ∀ p, p < 4 → cf' p = 0) :
    (ae_X 180 V cur (fun _ => 0) (fun _ => 0) sk mk k 0 k fc hd dc dn' cl' cf' g' mv' pi fe fn' fh' ru he wr la' ma' cur 0) := by
  have hW : ∀ c, c < 16 → ae_W3 cur sk c = V c := fun c hc => ae_Wle h hc
  obtain ⟨a1, a2, a3, a4, a5, a6, a7, a8⟩ := h
  obtain ⟨v, lk, dj, t1⟩ := a8
  have v' := ae_CIvl v ci
  have cr : ∀ c, c < 16 → ae_R g' cur k c = cur c := fun c hc => ae_CIr ci lk (a2.2.2.2.1 c hc)
  have k120 : k ≤ 120 := by
    have s := ci.2.2.2.2.2.2.2.1
    have c3 : ∀ t, t < 3 → ae_CN g' k t ≤ 40 := by
      intro t ht
      have q := t1 t ht
      by_cases z : ru t = 0
      · rw [ci.2.2.2.2.2.2.2.2.1 t z]
        omega
      · have b := ci.2.2.2.2.2.2.2.2.2.2 t
        have c := (q.2.2.2.2.2.2.2.2.2 z).2.2.2
        have d := q.2.2.2.2.2.1
        omega
    have c0 := c3 0 (by omega)
    have c1 := c3 1 (by omega)
    have c2 := c3 2 (by omega)
    omega
  have tx : ae_TX g' k ru he wr la' ma' sk mk := by
    refine ⟨v', ae_CIlk ci lk, dj, fun t ht => ?_⟩
    have q := t1 t ht
    obtain ⟨b1, b2, b3, b4, b5, b6, b7, b8, b9, b10⟩ := q
    have ll := ae_CIll v ci t
    have mle := ci.2.2.1 (la t) b1
    refine ⟨by rw [hla t ht]; exact mle, by rw [hma t ht]; exact hmv _, b3, ?_, ?_, b6, b7, b8, b9, fun hr => ?_⟩
    · rw [ll, hla t ht]
      by_cases z : ru t = 0
      · rw [if_pos z, if_pos z]
      · rw [if_neg z, if_neg z, b4, if_neg z]
    · by_cases z : ru t = 0
      · rw [ll, if_pos z, ae_ch0]
        exact (ae_T1n (t1 t ht) z).1
      · have sr := ae_T1r (t1 t ht) z
        rw [ll, if_neg z, sr.2, sr.1]
        exact (ae_CIch v ci (la t) b1 (ae_pthk (b10 z).1 z)).symm
    · obtain ⟨p1, p2, p3, p4⟩ := b10 hr
      have pk := ae_pthk (ru := ru) p1 hr
      have pm : ae_pth g le ru (ma t) := fun m hm h0 => pk m (ae_rctr hm _ p2) h0
      have ml := ae_rcle _ p2
      rw [hla t ht, hma t ht]
      refine ⟨fun m' hm' m0 => ?_, ae_CIrc v ci (la t) b1 pk p2, ?_, ?_⟩
      · obtain ⟨m, r, r0, re⟩ := ae_CIrcb v ci (la t) b1 pk hm' m0
        have mm := ae_rcle _ r
        have e := ci.2.2.2.1 m (by omega) (by omega) (pk m r r0)
        rw [← re]
        refine ⟨by rw [e]; exact (p1 m r r0).1, fun m'' w1 w2 _ => ?_⟩
        rw [re] at w1
        exact ae_CIso ci (by omega) w2
      · rw [ae_CIch v ci (ma t) (by omega) pm]
        exact p3
      · have := ci.2.2.2.2.2.2.2.2.2.2 t
        omega
  refine ⟨ae_PLz a1 hz h1 h2 h3, ⟨Nat.le_refl _, by omega, fun p hp => ⟨Nat.zero_le _, by rw [h3 p hp]; omega, Nat.zero_le _⟩, fun c hc => (cr c hc).symm, fun n n0 n1 n2 => Or.inr n1, fun c hc => Or.inl ?_, fun _ c hc hf => absurd rfl hf⟩, ?_, ⟨by omega, ae_fr0 h5, fun p hp => by rw [h5 p hp]; omega, fun t ht => by rw [h4 t ht]; rfl⟩, hmv, by omega, by omega, tx⟩
  · have hp : c / 4 < 4 := by omega
    have d := (a1.2.2.2.2.2.2.2.1 (c / 4) hp (hz _ hp)).2 (c % 4) (by omega)
    rw [ae_c4] at d
    rw [h3 _ hp, d]
    rfl
  · intro s s1 s2
    have : s = k := by omega
    rw [this]
    refine ⟨fun c hc => ?_, ae_TXF tx (by omega)⟩
    rw [← hW c hc]
    exact ae_W3c (cr c hc) (fun t ht => ae_skL tx ht)
/-- what a crash leaves -/
def ae_D (V : Nat → Nat) (se ce fc hd : Nat) (dc dn cl cf : Nat → Nat) (g : Nat → ae_E) (mv he wr ma Z : Nat → Nat) (b : Nat) : Prop :=
  1 ≤ fc ∧ fc ≤ 3 ∧ hd < fc ∧ ae_VL g se ∧ (∀ c, c < 16 → ae_W g Z se c = V c) ∧ ae_F g se ≤ 264 ∧ ae_PD g Z se b dc dn ∧ ae_CK g se ce b cl cf ∧ b ≤ se ∧ (∀ p, p < 4 → dn p ≤ se) ∧ (∀ j, mv j ≤ 300) ∧ ∀ t, t < 3 → ma t ≤ 300 ∧ he t < 65536 ∧ wr t ≤ 20
theorem ae_VLm {le' : Nat} (h : ae_VL g le) (hl : le' ≤ le) : ae_VL g le' := fun n n0 n1 => h n n0 (by omega)
theorem ae_XD (h : (ae_X N V cur num fst sk mk se ce le fc hd dc dn cl cf g mv pi fe fn fh ru he wr la ma Z b)) : ae_D V se ce fc hd dc dn cl cf g mv he wr ma Z b := by
  obtain ⟨a1, a2, a3, a4, a5, a6, a7, a8⟩ := h
  have w := a3 se (Nat.le_refl _) a2.1
  exact ⟨a1.1, a1.2.1, a1.2.2.1, ae_VLm a8.1 a2.1, w.1, w.2, a2.2.2.2.2.2.1, a4, a2.2.1, fun p hp => (a2.2.2.1 p hp).2.1, a5, fun t ht => ⟨(a8.2.2.2 t ht).2.1, (a8.2.2.2 t ht).2.2.2.2.2.2.1, (a8.2.2.2 t ht).2.2.2.2.2.1⟩⟩
/-- the taking back in a restart -/
def ae_UB (V cur num fst : Nat → Nat) (se ce le fc hd : Nat) (dc dn cl cf : Nat → Nat) (g : Nat → ae_E) (mv pi fe fn fh he wr la ma Z : Nat → Nat) (b : Nat) : Prop :=
  ae_PL fc hd pi fe fn fh dc dn cur num fst ∧ ae_NB False g Z se le b dc dn cur num fst ∧ ae_WS g Z se le V ∧ ae_CK g se ce b cl cf ∧ (∀ j, mv j ≤ 300) ∧ ae_VL g le ∧ (∀ t, t < 3 → la t = ae_LL g le t) ∧ ∀ t, t < 3 → ma t ≤ 300 ∧ he t < 65536 ∧ wr t ≤ 20
theorem ae_UBD (h : ae_UB V cur num fst se ce le fc hd dc dn cl cf g mv pi fe fn fh he wr la ma Z b) : ae_D V se ce fc hd dc dn cl cf g mv he wr ma Z b := by
  obtain ⟨a1, a2, a3, a4, a5, a6, a7, a8⟩ := h
  have w := a3 se (Nat.le_refl _) a2.1
  exact ⟨a1.1, a1.2.1, a1.2.2.1, ae_VLm a6 a2.1, w.1, w.2, a2.2.2.2.2.2.1, a4, a2.2.1, fun p hp => (a2.2.2.1 p hp).2.1, a5, a8⟩
theorem ae_UBle (h : ae_UB V cur num fst se ce le fc hd dc dn cl cf g mv pi fe fn fh he wr la ma Z b) : le ≤ 264 ∧ se ≤ le := by
  have w := (h.2.2.1 le h.2.1.1 (Nat.le_refl _)).2
  unfold ae_F at w
  exact ⟨by omega, h.2.1.1⟩
theorem ae_UBfl {hd' se' : Nat} {pi' fe' fn' fh' dc' dn' fst' : Nat → Nat} (h : ae_UB V cur num fst se ce le fc hd dc dn cl cf g mv pi fe fn fh he wr la ma Z b) (f : ae_FL cur num se dc dn fst se' dc' dn' fst') (p : ae_PL fc hd' pi' fe' fn' fh' dc' dn' cur num fst') :
    ae_UB V cur num fst' se' ce le fc hd' dc' dn' cl cf g mv pi' fe' fn' fh' he wr la ma Z b := by
  obtain ⟨h1, h2, h3, h4, h5, h6, h7, h8⟩ := h
  exact ⟨p, ae_NBfl h2 f, ae_WSse h3 f.1, ae_CKse h4 f.1, h5, h6, h7, h8⟩
/-- one undoing -/
theorem ae_UBc {t n : Nat} {pi' fe' fn' fh' : Nat → Nat} (h : ae_UB V cur num fst se ce le fc hd dc dn cl cf g mv pi fe fn fh he wr la ma Z b) (ht : t < 3) (h0 : ∀ u, u < t → ae_LL g le u = 0) (hn0 : 0 < n) (hn : n ≤ le) (hs : (g n).1 = 0) (hl0 : ae_LL g le t ≠ 0) (hch : ae_ch g (ae_LL g le t) = ae_ch g n)
    (p : ae_PL fc hd pi' fe' fn' fh' dc dn (ae_up cur (g n).2.2.1 (g n).2.2.2.1) (ae_up num ((g n).2.2.1 / 4) (le + 1)) (ae_dirt fst ((g n).2.2.1 / 4) (le + 1))) (hcl : ae_cln dc cur fst) :
    ae_UB V (ae_up cur (g n).2.2.1 (g n).2.2.2.1) (ae_up num ((g n).2.2.1 / 4) (le + 1)) (ae_dirt fst ((g n).2.2.1 / 4) (le + 1)) se ce (le + 1) fc hd dc dn cl cf (ae_up g (le + 1) (1, t, (g n).2.2.1, 0, (g n).2.2.2.1, (g n).2.2.2.2.2)) mv pi' fe' fn' fh' he wr (ae_up la t (le + 1)) ma Z b := by
  obtain ⟨h1, h2, h3, h4, h5, h6, h7, h8⟩ := h
  have v := h6 n hn0 hn
  have w := h3 le h2.1 (Nat.le_refl _)
  refine ⟨p, ae_NBapp h2 (by show (1 : Nat) < 2; omega) (fun z i hi => hcl _ (by show (g n).2.2.1 / 4 < 4; omega) z i hi), ae_WSapp h3 (fun d hd => ?_) (Nat.le_trans (ae_Fclr ht hn hl0 hs v.2.2.2 hch _) w.2), ae_CKapp h4 h2.1, h5, ae_VLapp h6 (by show (1 : Nat) < 4; omega) ht v.2.2.1 (by show (g n).2.2.2.2.2 < le + 1; omega), fun u hu => ?_, h8⟩
  · rw [ae_Wclr ht hn hs v.2.2.2 hch (fun u hu e he' => ?_)]
    · exact w.1 d hd
    · rw [h0 u hu, ae_ch0] at he'
      exact absurd he' List.not_mem_nil
  · by_cases z : u = t
    · rw [z, ae_us, ae_LLapp_d rfl (by show (1 : Nat) < 2; omega)]
    · rw [ae_un z, ae_LLapp_o (fun y => z y.symm)]
      exact h7 u hu
/-- a loser's end -/
theorem ae_UBe {t : Nat} {la' : Nat → Nat} (h : ae_UB V cur num fst se ce le fc hd dc dn cl cf g mv pi fe fn fh he wr la ma Z b) (ht : t < 3) (hl0 : ae_LL g le t ≠ 0) (hch : ae_ch g (ae_LL g le t) = []) (l1 : la' t = 0) (l2 : ∀ u, u ≠ t → la' u = la u) :
    ae_UB V cur num fst se ce (le + 1) fc hd dc dn cl cf (ae_up g (le + 1) (3, t, 0, 0, 0, la t)) mv pi fe fn fh he wr la' ma Z b := by
  obtain ⟨h1, h2, h3, h4, h5, h6, h7, h8⟩ := h
  have w := h3 le h2.1 (Nat.le_refl _)
  have ll := ae_LLle (g := g) (t := t) le
  have e3 : ¬ (3 : Nat) < 2 := by omega
  refine ⟨h1, ae_NBend h2 e3, ae_WSapp h3 (fun d hd => ?_) (Nat.le_trans (ae_Fend ht e3 rfl hl0) w.2), ae_CKapp h4 h2.1, h5, ae_VLapp h6 (by show (3 : Nat) < 4; omega) ht (by show (0 : Nat) < 16; omega) (by show la t < le + 1; rw [h7 t ht]; omega), fun u hu => ?_, h8⟩
  · rw [ae_Wend (t := t) e3 rfl hch]
    exact w.1 d hd
  · by_cases z : u = t
    · rw [z, l1, ae_LLapp_e rfl e3]
    · rw [l2 u z, ae_LLapp_o (fun y => z y.symm)]
      exact h7 u hu
/-- all losers are gone: the cells are V -/
theorem ae_UBV (h : ae_UB V cur num fst se ce le fc hd dc dn cl cf g mv pi fe fn fh he wr la ma Z b) (h0 : ∀ u, u < 3 → ae_LL g le u = 0) : ∀ c, c < 16 → cur c = V c := by
  intro c hc
  obtain ⟨h1, h2, h3, h4, h5, h6, h7, h8⟩ := h
  rw [← (h3 le h2.1 (Nat.le_refl _)).1 c hc, h2.2.2.2.1 c hc]
  refine (ae_W3o (fun u hu e he' => ?_)).symm
  rw [h0 u hu, ae_ch0] at he'
  exact absurd he' List.not_mem_nil
/-- the log begins anew -/
theorem ae_Xnew {fn' fh' dn' cl' cf' la' ru' : Nat → Nat} (h : ae_PL fc hd pi fe fn fh dc dn cur num fst) (hV : ∀ c, c < 16 → cur c = V c) (hz : ∀ p, p < 4 → fst p = 0) (hmv : ∀ j, mv j ≤ 300) (ht : ∀ t, t < 3 → ma t ≤ 300 ∧ he t < 65536 ∧ wr t ≤ 20)
    (hru : ∀ t, t < 3 → ru' t = 0) (hla : ∀ t, t < 3 → la' t = 0) (h1 : ∀ f, f < 3 → fn' f = 0) (h2 : ∀ f, f < 3 → fh' f = 0) (h3 : ∀ p, p < 4 → dn' p = 0) (h4 : ∀ t, t < 3 → cl' t = 0) (h5 : ∀ p, p < 4 → cf' p = 0) :
    (ae_X 201 V V (fun _ => 0) (fun _ => 0) (fun _ => []) mk 0 0 0 fc hd dc dn' cl' cf' g mv pi fe fn' fh' ru' he wr la' ma V 0) := by
  have pl := ae_PLz (ae_PLcong h (cur' := V) (fun c hc => (hV c hc).symm)) hz h1 h2 h3
  have tx : ae_TX g 0 ru' he wr la' ma (fun _ => []) mk := by
    refine ⟨fun n n0 n1 => absurd n0 (by omega), fun n n0 n1 => absurd n0 (by omega), fun t u ht' hu' _ rt => absurd (hru t ht') rt, fun t ht' => ?_⟩
    refine ⟨by rw [hla t ht']; omega, (ht t ht').1, by rw [hru t ht']; omega, ?_, ?_, (ht t ht').2.2, (ht t ht').2.1, fun e he' => absurd he' List.not_mem_nil, Nat.zero_le _, fun hr => absurd (hru t ht') hr⟩
    · rw [hru t ht', if_pos rfl]
      rfl
    · exact ae_ch0.symm
  refine ⟨pl, ⟨Nat.le_refl _, Nat.le_refl _, fun p hp => ⟨Nat.le_refl _, by rw [h3 p hp]; exact Nat.le_refl _, Nat.le_refl _⟩, fun c hc => rfl, fun n n0 n1 n2 => Or.inr n1, fun c hc => Or.inl ?_, fun _ c hc hf => absurd rfl hf⟩, ?_, ⟨by omega, ae_fr0 h5, fun p hp => by rw [h5 p hp]; omega, fun t ht => by rw [h4 t ht]; rfl⟩, hmv, by omega, by omega, tx⟩
  · have hp : c / 4 < 4 := by omega
    have d := (pl.2.2.2.2.2.2.2.1 (c / 4) hp rfl).2 (c % 4) (by omega)
    rw [ae_c4] at d
    rw [h3 _ hp, d]
    rfl
  · intro s s1 s2
    have : s = 0 := by omega
    rw [this]
    refine ⟨fun c hc => ae_W3o (fun u hu e he' => ?_), ae_TXF tx (by omega)⟩
    have he2 : e ∈ ae_ch g (ae_LL g 0 u) := he'
    rw [ae_LL0, ae_ch0] at he2
    exact absurd he2 List.not_mem_nil
end
end
section
/-! walks: writeAllPages, forgetNumbers, clearLog, belongs, makeRoom -/
section
variable {se ce le fc hd st : Nat} {dc dn cl cf mv pi fe fn fh ru he wr la ma cur num fst : Nat → Nat} {g : Nat → ae_E} {N b : Nat} {V Z mk : Nat → Nat} {sk : Nat → List (Nat × Nat)}
theorem ae_wa2 {post : St1 → Prop} : ∀ (k i se : Nat) (fh dc dn fst : Nat → Nat), i + k = fc → ae_PL fc hd pi fe fn fh dc dn cur num fst → se ≤ 300 → (∀ f p, f < i → pi f = p + 1 → fst p = 0) →
    (∀ (se' : Nat) (fh' dc' dn' fst' : Nat → Nat), ae_PL fc hd pi fe fn fh' dc' dn' cur num fst' → ae_FL cur num se dc dn fst se' dc' dn' fst' → (∀ p, p < 4 → fst' p = 0) → se' ≤ 300 → post (ae_S se' ce le fc hd st dc' dn' cl cf g mv pi fe fn fh' ru he wr la ma)) →
    wX_writeAllPages_2 post (k + 1) (nI i) (nI se) (nI ce) (nI le) (nI fc) (nI hd) (nI st) (ae_A dc) (ae_A dn) (ae_A cl) (ae_A cf) (ae_A (fun n => (g n).1)) (ae_A (fun n => (g n).2.1)) (ae_A (fun n => (g n).2.2.1)) (ae_A (fun n => (g n).2.2.2.1)) (ae_A (fun n => (g n).2.2.2.2.1)) (ae_A (fun n => (g n).2.2.2.2.2)) (ae_A mv) (ae_P pi) (ae_A fe) (ae_A fn) (ae_A fh) (ae_A ru) (ae_A he) (ae_A wr) (ae_A la) (ae_A ma) := by
  intro k
  induction k with
  | zero =>
    intro i se fh dc dn fst hi hl hse hz H
    have f3 := hl.2.1
    refine pk_le fc i (fun _ => H se fh dc dn fst hl ae_FLr (fun p hp => ?_) hse) (fun z => absurd z (by omega))
    by_cases q : ∃ f, f < fc ∧ pi f = p + 1
    · obtain ⟨f, a, b⟩ := q
      exact hz f p (by omega) b
    · exact hl.2.2.2.2.2.2.1 p hp (fun f hf e => q ⟨f, hf, e⟩)
  | succ k ih =>
    intro i se fh dc dn fst hi hl hse hz H
    have f3 := hl.2.1
    refine pk_le fc i (fun z => absurd z (by omega)) (fun _ => ?_)
    refine ae_wpP hl (by omega) hse (fun se' fh' dc' dn' fst' hl' hfl hcl hs' => ?_)
    unfold ae_S
    dsimp only
    refine nm_r (nI_1 i) (ih (i + 1) se' fh' dc' dn' fst' (by omega) hl' hs' (fun f p hf e => ?_) (fun se'' fh'' dc'' dn'' fst'' a b c d => H se'' fh'' dc'' dn'' fst'' a (ae_FLt hfl b) c d))
    have p4 : p < 4 := by
      have := hl.2.2.2.1 f (by omega)
      omega
    by_cases z : f = i
    · rw [z] at e
      cases hcl with
      | inl w => omega
      | inr w => rw [← (hl'.2.2.2.2.2.1 i p (by omega) e).2.2]; exact w
    · have o := hz f p (by omega) e
      cases hfl.2.2 p p4 with
      | inl w => rw [w.2.1]; exact o
      | inr w => exact w.2.2.1
theorem ae_wa {post : St1 → Prop} (hl : ae_PL fc hd pi fe fn fh dc dn cur num fst) (hse : se ≤ 300)
    (H : ∀ (se' : Nat) (fh' dc' dn' fst' : Nat → Nat), ae_PL fc hd pi fe fn fh' dc' dn' cur num fst' → ae_FL cur num se dc dn fst se' dc' dn' fst' → (∀ p, p < 4 → fst' p = 0) → se' ≤ 300 → post (ae_S se' ce le fc hd st dc' dn' cl cf g mv pi fe fn fh' ru he wr la ma)) : wpX_writeAllPages post (ae_S se ce le fc hd st dc dn cl cf g mv pi fe fn fh ru he wr la ma) := by
  unfold wpX_writeAllPages ae_S
  dsimp only
  exact ⟨fc + 1, ae_wa2 fc 0 se fh dc dn fst (by omega) hl hse (fun f p hf => absurd hf (by omega)) H⟩
def ae_zr (n : Nat) (f : Nat → Nat) : Prop := ∀ j, j < n → f j = 0
theorem ae_zr1 {i : Nat} {f : Nat → Nat} (h : ae_zr i f) : ae_zr (i + 1) (ae_up f i 0) := by
  intro j hj
  by_cases z : j = i
  · rw [z, ae_us]
  · rw [ae_un z]
    exact h j (by omega)
theorem ae_fn54 {post : St1 → Prop} (H : ∀ fn' fh' : Nat → Nat, ae_zr 3 fn' → ae_zr 3 fh' → post (ae_S se ce le fc hd st dc dn cl cf g mv pi fe fn' fh' ru he wr la ma)) : ∃ n, wX_forgetNumbers_54 post (nI se) (nI ce) (nI le) (nI fc) (nI hd) (nI st) n 0 (ae_A dc) (ae_A dn) (ae_A cl) (ae_A cf) (ae_A (fun n => (g n).1)) (ae_A (fun n => (g n).2.1)) (ae_A (fun n => (g n).2.2.1)) (ae_A (fun n => (g n).2.2.2.1)) (ae_A (fun n => (g n).2.2.2.2.1)) (ae_A (fun n => (g n).2.2.2.2.2)) (ae_A mv) (ae_P pi) (ae_A fe) (ae_A fn) (ae_A fh) (ae_A ru) (ae_A he) (ae_A wr) (ae_A la) (ae_A ma) := by
  refine pk_loop (fun n i s => wX_forgetNumbers_54 post (nI se) (nI ce) (nI le) (nI fc) (nI hd) (nI st) n (nI i) (ae_A dc) (ae_A dn) (ae_A cl) (ae_A cf) (ae_A (fun n => (g n).1)) (ae_A (fun n => (g n).2.1)) (ae_A (fun n => (g n).2.2.1)) (ae_A (fun n => (g n).2.2.2.1)) (ae_A (fun n => (g n).2.2.2.2.1)) (ae_A (fun n => (g n).2.2.2.2.2)) (ae_A mv) (ae_P pi) (ae_A fe) s.1 s.2 (ae_A ru) (ae_A he) (ae_A wr) (ae_A la) (ae_A ma)) (fun i s => ∃ a b : Nat → Nat, s = (ae_A a, ae_A b) ∧ ae_zr i a ∧ ae_zr i b) 3 0 (ae_A fn, ae_A fh) (by omega) ⟨fn, fh, rfl, fun j hj => absurd hj (by omega), fun j hj => absurd hj (by omega)⟩ (fun n s hs => ?_) (fun n i s hi hs hw => ?_)
  · obtain ⟨a, b, rfl, ha, hb⟩ := hs
    exact pk_le 3 3 (fun _ => H a b ha hb) (fun z => absurd z (by omega))
  · obtain ⟨a, b, rfl, ha, hb⟩ := hs
    exact pk_le 3 i (fun z => absurd z (by omega)) (fun _ => ⟨pk_in i 3 hi, nm_r (ae_Uc (v := 0) (by omega) rfl) ⟨pk_in i 3 hi, nm_r (ae_Uc (v := 0) (by omega) rfl) (nm_r (nI_1 i) (hw (ae_A (ae_up a i 0), ae_A (ae_up b i 0)) ⟨_, _, rfl, ae_zr1 ha, ae_zr1 hb⟩))⟩⟩)
theorem ae_fn27 {post : St1 → Prop} (H : ∀ dn' cf' fn' fh' : Nat → Nat, ae_zr 4 dn' → ae_zr 4 cf' → ae_zr 3 fn' → ae_zr 3 fh' → post (ae_S se ce le fc hd st dc dn' cl cf' g mv pi fe fn' fh' ru he wr la ma)) : ∃ n, wX_forgetNumbers_27 post (nI se) (nI ce) (nI le) (nI fc) (nI hd) (nI st) n 0 (ae_A dc) (ae_A dn) (ae_A cl) (ae_A cf) (ae_A (fun n => (g n).1)) (ae_A (fun n => (g n).2.1)) (ae_A (fun n => (g n).2.2.1)) (ae_A (fun n => (g n).2.2.2.1)) (ae_A (fun n => (g n).2.2.2.2.1)) (ae_A (fun n => (g n).2.2.2.2.2)) (ae_A mv) (ae_P pi) (ae_A fe) (ae_A fn) (ae_A fh) (ae_A ru) (ae_A he) (ae_A wr) (ae_A la) (ae_A ma) := by
  refine pk_loop (fun n i s => wX_forgetNumbers_27 post (nI se) (nI ce) (nI le) (nI fc) (nI hd) (nI st) n (nI i) (ae_A dc) s.1 (ae_A cl) s.2 (ae_A (fun n => (g n).1)) (ae_A (fun n => (g n).2.1)) (ae_A (fun n => (g n).2.2.1)) (ae_A (fun n => (g n).2.2.2.1)) (ae_A (fun n => (g n).2.2.2.2.1)) (ae_A (fun n => (g n).2.2.2.2.2)) (ae_A mv) (ae_P pi) (ae_A fe) (ae_A fn) (ae_A fh) (ae_A ru) (ae_A he) (ae_A wr) (ae_A la) (ae_A ma)) (fun i s => ∃ a b : Nat → Nat, s = (ae_A a, ae_A b) ∧ ae_zr i a ∧ ae_zr i b) 4 0 (ae_A dn, ae_A cf) (by omega) ⟨dn, cf, rfl, fun j hj => absurd hj (by omega), fun j hj => absurd hj (by omega)⟩ (fun n s hs => ?_) (fun n i s hi hs hw => ?_)
  · obtain ⟨a, b, rfl, ha, hb⟩ := hs
    exact pk_le 4 4 (fun _ => ae_fn54 (fun fn' fh' h1 h2 => H a b fn' fh' ha hb h1 h2)) (fun z => absurd z (by omega))
  · obtain ⟨a, b, rfl, ha, hb⟩ := hs
    exact pk_le 4 i (fun z => absurd z (by omega)) (fun _ => ⟨pk_in i 4 hi, nm_r (ae_Uc (v := 0) (by omega) rfl) ⟨pk_in i 4 hi, nm_r (ae_Uc (v := 0) (by omega) rfl) (nm_r (nI_1 i) (hw (ae_A (ae_up a i 0), ae_A (ae_up b i 0)) ⟨_, _, rfl, ae_zr1 ha, ae_zr1 hb⟩))⟩⟩)
theorem ae_fn7 {post : St1 → Prop} (H : ∀ cl' dn' cf' fn' fh' : Nat → Nat, ae_zr 3 cl' → ae_zr 4 dn' → ae_zr 4 cf' → ae_zr 3 fn' → ae_zr 3 fh' → post (ae_S se ce le fc hd st dc dn' cl' cf' g mv pi fe fn' fh' ru he wr la ma)) : ∃ n, wX_forgetNumbers_7 post (nI se) (nI ce) (nI le) (nI fc) (nI hd) (nI st) n 0 (ae_A dc) (ae_A dn) (ae_A cl) (ae_A cf) (ae_A (fun n => (g n).1)) (ae_A (fun n => (g n).2.1)) (ae_A (fun n => (g n).2.2.1)) (ae_A (fun n => (g n).2.2.2.1)) (ae_A (fun n => (g n).2.2.2.2.1)) (ae_A (fun n => (g n).2.2.2.2.2)) (ae_A mv) (ae_P pi) (ae_A fe) (ae_A fn) (ae_A fh) (ae_A ru) (ae_A he) (ae_A wr) (ae_A la) (ae_A ma) := by
  refine pk_loop (fun n i s => wX_forgetNumbers_7 post (nI se) (nI ce) (nI le) (nI fc) (nI hd) (nI st) n (nI i) (ae_A dc) (ae_A dn) s (ae_A cf) (ae_A (fun n => (g n).1)) (ae_A (fun n => (g n).2.1)) (ae_A (fun n => (g n).2.2.1)) (ae_A (fun n => (g n).2.2.2.1)) (ae_A (fun n => (g n).2.2.2.2.1)) (ae_A (fun n => (g n).2.2.2.2.2)) (ae_A mv) (ae_P pi) (ae_A fe) (ae_A fn) (ae_A fh) (ae_A ru) (ae_A he) (ae_A wr) (ae_A la) (ae_A ma)) (fun i s => ∃ a : Nat → Nat, s = ae_A a ∧ ae_zr i a) 3 0 (ae_A cl) (by omega) ⟨cl, rfl, fun j hj => absurd hj (by omega)⟩ (fun n s hs => ?_) (fun n i s hi hs hw => ?_)
  · obtain ⟨a, rfl, ha⟩ := hs
    exact pk_le 3 3 (fun _ => ae_fn27 (fun dn' cf' fn' fh' h1 h2 h3 h4 => H a dn' cf' fn' fh' ha h1 h2 h3 h4)) (fun z => absurd z (by omega))
  · obtain ⟨a, rfl, ha⟩ := hs
    exact pk_le 3 i (fun z => absurd z (by omega)) (fun _ => ⟨pk_in i 3 hi, nm_r (ae_Uc (v := 0) (by omega) rfl) (nm_r (nI_1 i) (hw (ae_A (ae_up a i 0)) ⟨_, rfl, ae_zr1 ha⟩))⟩)
theorem ae_fgt {post : St1 → Prop} (H : ∀ cl' dn' cf' fn' fh' : Nat → Nat, ae_zr 3 cl' → ae_zr 4 dn' → ae_zr 4 cf' → ae_zr 3 fn' → ae_zr 3 fh' → post (ae_S se 0 le fc hd st dc dn' cl' cf' g mv pi fe fn' fh' ru he wr la ma)) : wpX_forgetNumbers post (ae_S se ce le fc hd st dc dn cl cf g mv pi fe fn fh ru he wr la ma) := by
  unfold wpX_forgetNumbers ae_S
  dsimp only
  exact ae_fn7 (ce := 0) H
theorem ae_cll {post : St1 → Prop} (hl : ae_PL fc hd pi fe fn fh dc dn cur num fst) (hse : se ≤ 300)
    (H : ∀ (fst' fn' fh' fh'' dc' dn' dn'' cl' cf' : Nat → Nat), ae_PL fc hd pi fe fn fh'' dc' dn'' cur num fst' → (∀ p, p < 4 → fst' p = 0) → ae_zr 3 cl' → ae_zr 4 dn' → ae_zr 4 cf' → ae_zr 3 fn' → ae_zr 3 fh' → post (ae_S 0 0 0 fc hd st dc' dn' cl' cf' g mv pi fe fn' fh' ru he wr la ma)) : wpX_clearLog post (ae_S se ce le fc hd st dc dn cl cf g mv pi fe fn fh ru he wr la ma) := by
  unfold wpX_clearLog
  refine ae_wa hl hse (fun se' fh' dc' dn' fst' a b c d => ?_)
  unfold ae_S
  dsimp only
  refine ae_fgt (se := 0) (le := 0) (fun cl' dn2 cf' fn' fh2 h1 h2 h3 h4 h5 => ?_)
  exact H fst' fn' fh2 fh' dc' dn2 dn' cl' cf' a c h1 h2 h3 h4 h5
theorem ae_bel {post : Int32 → Prop} {n t : Nat} (ht : t < 3) (n0 : 0 < n) (hn : n ≤ le) (hle : le ≤ 300) (hv : ∀ m, n ≤ m → m ≤ le → (g m).1 < 4 ∧ (g m).2.1 < 3)
    (H1 : (∀ m, n ≤ m → m ≤ le → (g m).2.1 = t → (g m).1 < 2) → post 1) (H0 : ¬ (∀ m, n ≤ m → m ≤ le → (g m).2.1 = t → (g m).1 < 2) → post 0) : wpX_belongs post (ae_S se ce le fc hd st dc dn cl cf g mv pi fe fn fh ru he wr la ma) (nI n) (nI t) := by
  unfold wpX_belongs ae_S
  dsimp only
  refine pk_loop (σ := Unit) (fun n i _ => wX_belongs_2 post (nI t) (nI se) (nI ce) (nI le) (nI fc) (nI hd) (nI st) (ae_A dc) (ae_A dn) (ae_A cl) (ae_A cf) (ae_A (fun n => (g n).1)) (ae_A (fun n => (g n).2.1)) (ae_A (fun n => (g n).2.2.1)) (ae_A (fun n => (g n).2.2.2.1)) (ae_A (fun n => (g n).2.2.2.2.1)) (ae_A (fun n => (g n).2.2.2.2.2)) (ae_A mv) (ae_P pi) (ae_A fe) (ae_A fn) (ae_A fh) (ae_A ru) (ae_A he) (ae_A wr) (ae_A la) (ae_A ma) n (nI i)) (fun i _ => n ≤ i ∧ ∀ m, n ≤ m → m < i → (g m).2.1 = t → (g m).1 < 2) (le + 1) n () (by omega) ⟨Nat.le_refl _, fun m a b => absurd a (by omega)⟩ (fun k _ hs => ?_) (fun k i _ hi hs hw => ?_)
  · exact pk_lt le (le + 1) (fun _ => H1 (fun m a b c => hs.2 m a (by omega) c)) (fun z => absurd z (by omega))
  · have v := hv i hs.1 (by omega)
    refine pk_lt le i (fun z => absurd z (by omega)) (fun _ => ⟨pk_in i 301 (by omega), ?_⟩)
    refine pk_eq (g i).2.1 t (fun e => ⟨pk_in i 301 (by omega), ?_⟩) (fun e => nm_r (nI_1 i) (hw () ⟨by omega, fun m a b c => ?_⟩)) (ae_Ac (by omega))
    · refine pk_lt (g i).1 2 (fun w => nm_r (nI_1 i) (hw () ⟨by omega, fun m a b c => ?_⟩)) (fun w => H0 (fun q => ?_)) (ae_Ac (by omega))
      · by_cases z : m = i
        · rw [z]
          exact w
        · exact hs.2 m a (by omega) c
      · have := q i hs.1 (by omega) e
        omega
    · by_cases z : m = i
      · rw [z] at c
        exact absurd c e
      · exact hs.2 m a (by omega) c
theorem ae_mr166 {post : St1 → Prop} {k : Nat} (hmv : ∀ j, mv j ≤ 300) (hla : ∀ t, t < 3 → la t ≤ 300) (hma : ∀ t, t < 3 → ma t ≤ 300)
    (H : ∀ cl' dn' cf' fn' fh' la' ma' : Nat → Nat, ae_zr 3 cl' → ae_zr 4 dn' → ae_zr 4 cf' → ae_zr 3 fn' → ae_zr 3 fh' → (∀ t, t < 3 → la' t = mv (la t)) → (∀ t, t < 3 → ma' t = mv (ma t)) → post (ae_S k 0 k fc hd st dc dn' cl' cf' g mv pi fe fn' fh' ru he wr la' ma')) :
    ∃ n, wX_makeRoom_166 post (nI k) (nI se) (nI ce) (nI le) (nI fc) (nI hd) (nI st) n 0 (ae_A dc) (ae_A dn) (ae_A cl) (ae_A cf) (ae_A (fun n => (g n).1)) (ae_A (fun n => (g n).2.1)) (ae_A (fun n => (g n).2.2.1)) (ae_A (fun n => (g n).2.2.2.1)) (ae_A (fun n => (g n).2.2.2.2.1)) (ae_A (fun n => (g n).2.2.2.2.2)) (ae_A mv) (ae_P pi) (ae_A fe) (ae_A fn) (ae_A fh) (ae_A ru) (ae_A he) (ae_A wr) (ae_A la) (ae_A ma) := by
  refine pk_loop (fun n i s => wX_makeRoom_166 post (nI k) (nI se) (nI ce) (nI le) (nI fc) (nI hd) (nI st) n (nI i) (ae_A dc) (ae_A dn) (ae_A cl) (ae_A cf) (ae_A (fun n => (g n).1)) (ae_A (fun n => (g n).2.1)) (ae_A (fun n => (g n).2.2.1)) (ae_A (fun n => (g n).2.2.2.1)) (ae_A (fun n => (g n).2.2.2.2.1)) (ae_A (fun n => (g n).2.2.2.2.2)) (ae_A mv) (ae_P pi) (ae_A fe) (ae_A fn) (ae_A fh) (ae_A ru) (ae_A he) (ae_A wr) s.1 s.2) (fun i s => ∃ a b : Nat → Nat, s = (ae_A a, ae_A b) ∧ (∀ t, t < i → a t = mv (la t) ∧ b t = mv (ma t)) ∧ (∀ t, i ≤ t → a t = la t ∧ b t = ma t)) 3 0 (ae_A la, ae_A ma) (by omega) ⟨la, ma, rfl, fun j hj => absurd hj (by omega), fun _ _ => ⟨rfl, rfl⟩⟩ (fun n s hs => ?_) (fun n i s hi hs hw => ?_)
  · obtain ⟨a, b, rfl, ha, hb⟩ := hs
    refine pk_le 3 3 (fun _ => ?_) (fun z => absurd z (by omega))
    refine ae_fgt (se := k) (le := k) (fun cl' dn2 cf' fn' fh2 h1 h2 h3 h4 h5 => ?_)
    exact H cl' dn2 cf' fn' fh2 a b h1 h2 h3 h4 h5 (fun t ht => (ha t ht).1) (fun t ht => (ha t ht).2)
  · obtain ⟨a, b, rfl, ha, hb⟩ := hs
    have e := hb i (Nat.le_refl _)
    have l1 := hla i hi
    have l2 := hma i hi
    have l3 := hmv (la i)
    have l4 := hmv (ma i)
    have q1 : ae_A a (nI i).toNatClampNeg = nI (la i) := by rw [ae_Ac (by omega), e.1]
    have q2 : ae_A b (nI i).toNatClampNeg = nI (ma i) := by rw [ae_Ac (by omega), e.2]
    refine pk_le 3 i (fun z => absurd z (by omega)) (fun _ => ⟨pk_in i 3 hi, pk_in (la i) 301 (by omega) q1, pk_in i 3 hi, nm_r (e' := ae_A (ae_up a i (mv (la i)))) ?_ ⟨pk_in i 3 hi, pk_in (ma i) 301 (by omega) q2, pk_in i 3 hi, nm_r (e' := ae_A (ae_up b i (mv (ma i)))) ?_ (nm_r (nI_1 i) (hw (_, _) ⟨_, _, rfl, fun t ht => ?_, fun t ht => ?_⟩))⟩⟩)
    · dsimp only
      rw [q1, ae_Ac (by omega), ae_ns (by omega) rfl, ae_Uc (by omega) rfl]
    · dsimp only
      rw [q2, ae_Ac (by omega), ae_ns (by omega) rfl, ae_Uc (by omega) rfl]
    · by_cases z : t = i
      · rw [z, ae_us, ae_us]
        exact ⟨rfl, rfl⟩
      · rw [ae_un z, ae_un z]
        exact ha t (by omega)
    · rw [ae_un (by omega), ae_un (by omega)]
      exact hb t (by omega)
theorem ae_mr26 {post : St1 → Prop} (hle : le ≤ 300) (hv : ae_VL g le) (hru : ∀ t, t < 3 → ru t ≤ 1)
    (H : ∀ (k : Nat) (g' : Nat → ae_E) (mv' : Nat → Nat), ae_CI g le ru le k g' mv' → (∀ j, mv' j ≤ 300) → ∃ n, wX_makeRoom_166 post (nI k) (nI se) (nI ce) (nI le) (nI fc) (nI hd) (nI st) n 0 (ae_A dc) (ae_A dn) (ae_A cl) (ae_A cf) (ae_A (fun n => (g' n).1)) (ae_A (fun n => (g' n).2.1)) (ae_A (fun n => (g' n).2.2.1)) (ae_A (fun n => (g' n).2.2.2.1)) (ae_A (fun n => (g' n).2.2.2.2.1)) (ae_A (fun n => (g' n).2.2.2.2.2)) (ae_A mv') (ae_P pi) (ae_A fe) (ae_A fn) (ae_A fh) (ae_A ru) (ae_A he) (ae_A wr) (ae_A la) (ae_A ma)) :
    ∀ (d i k : Nat) (g' : Nat → ae_E) (mv' : Nat → Nat), i + d = le → ae_CI g le ru i k g' mv' → (∀ j, mv' j ≤ 300) → wX_makeRoom_26 post (nI se) (nI ce) (nI le) (nI fc) (nI hd) (nI st) (d + 1) (nI k) (nI (i + 1)) (ae_A dc) (ae_A dn) (ae_A cl) (ae_A cf) (ae_A (fun n => (g' n).1)) (ae_A (fun n => (g' n).2.1)) (ae_A (fun n => (g' n).2.2.1)) (ae_A (fun n => (g' n).2.2.2.1)) (ae_A (fun n => (g' n).2.2.2.2.1)) (ae_A (fun n => (g' n).2.2.2.2.2)) (ae_A mv') (ae_P pi) (ae_A fe) (ae_A fn) (ae_A fh) (ae_A ru) (ae_A he) (ae_A wr) (ae_A la) (ae_A ma) := by
  intro d
  induction d with
  | zero =>
    intro i k g' mv' hi ci hmv
    have e : i = le := by omega
    rw [e] at ci ⊢
    exact pk_lt le (le + 1) (fun _ => H k g' mv' ci hmv) (fun z => absurd z (by omega))
  | succ d ih =>
    intro i k g' mv' hi ci hmv
    have vi := hv (i + 1) (by omega) (by omega)
    have gi : g' (i + 1) = g (i + 1) := ci.2.2.2.2.2.2.1 (i + 1) (by omega)
    have ki := ci.1
    have bwe : ae_A (fun n => (g' n).2.1) (nI (i + 1)).toNatClampNeg = nI (g (i + 1)).2.1 := by rw [ae_Ac (by omega), gi]
    have mv1 : ∀ j, ae_up mv' (i + 1) k j ≤ 300 := by
      intro j
      by_cases z : j = i + 1
      · rw [z, ae_us]
        omega
      · rw [ae_un z]
        exact hmv j
    have mv2 : ∀ j, ae_up (ae_up mv' (i + 1) k) (i + 1) (k + 1) j ≤ 300 := by
      intro j
      by_cases z : j = i + 1
      · rw [z, ae_us]
        omega
      · rw [ae_un z]
        exact mv1 j
    have no : ¬ ae_kp g le ru (i + 1) → wX_makeRoom_26 post (nI se) (nI ce) (nI le) (nI fc) (nI hd) (nI st) (d + 1) (nI k) (nI (i + 1 + 1)) (ae_A dc) (ae_A dn) (ae_A cl) (ae_A cf) (ae_A (fun n => (g' n).1)) (ae_A (fun n => (g' n).2.1)) (ae_A (fun n => (g' n).2.2.1)) (ae_A (fun n => (g' n).2.2.2.1)) (ae_A (fun n => (g' n).2.2.2.2.1)) (ae_A (fun n => (g' n).2.2.2.2.2)) (ae_A (ae_up mv' (i + 1) k)) (ae_P pi) (ae_A fe) (ae_A fn) (ae_A fh) (ae_A ru) (ae_A he) (ae_A wr) (ae_A la) (ae_A ma) := fun hk => ih (i + 1) k g' _ (by omega) (ae_CIn hv ci (by omega) hk ae_us (fun m hm => ae_un hm)) mv1
    have i1 : vp_in (nI (i + 1)) 301 := pk_in (i + 1) 301 (by omega)
    refine pk_lt le (i + 1) (fun z => absurd z (by omega)) (fun _ => ⟨i1, nm_r (ae_Uc (by omega) (ae_n16 k (by omega))) ⟨i1, nm_r bwe ⟨pk_in (g (i + 1)).2.1 3 vi.2.1, ?_⟩⟩⟩)
    have r1 := hru (g (i + 1)).2.1 vi.2.1
    refine pk_eq (ru (g (i + 1)).2.1) 0 (fun z => nm_r (nI_1 (i + 1)) (no (fun q => q.1 z))) (fun z => ?_) (ae_Ac (by omega))
    refine ae_bel (n := i + 1) vi.2.1 (by omega) (by omega) hle (fun m a b => ?_) (fun q => ?_) (fun q => ?_)
    · rw [ci.2.2.2.2.2.2.1 m (by omega)]
      exact ⟨(hv m (by omega) b).1, (hv m (by omega) b).2.1⟩
    · have kk : ae_kp g le ru (i + 1) := ⟨z, fun m a b c => by
        have := q m a b
        rw [ci.2.2.2.2.2.2.1 m (by omega)] at this
        exact this c⟩
      have k1 : vp_in (nI (k + 1)) 301 := pk_in (k + 1) 301 (by omega)
      have lle : (g' (i + 1)).2.2.2.2.2 ≤ 300 := by
        rw [gi]
        omega
      have l0 := mv2 (g' (i + 1)).2.2.2.2.2
      have lin : ae_A (fun n => (g' n).2.2.2.2.2) (nI (i + 1)).toNatClampNeg = nI (g' (i + 1)).2.2.2.2.2 := ae_Ac (by omega)
      have ee : ae_CI g le ru (i + 1) (k + 1) (ae_up g' (k + 1) ((g' (i + 1)).1, (g' (i + 1)).2.1, (g' (i + 1)).2.2.1, (g' (i + 1)).2.2.2.1, (g' (i + 1)).2.2.2.2.1, ae_up (ae_up mv' (i + 1) k) (i + 1) (k + 1) (g' (i + 1)).2.2.2.2.2)) (ae_up (ae_up mv' (i + 1) k) (i + 1) (k + 1)) := by
        refine ae_CIk hv ci (by omega) kk ae_us (fun m hm => by rw [ae_un hm, ae_un hm]) ?_ (fun j hj => ae_un hj)
        rw [ae_us, gi]
        rfl
      have nx := ih (i + 1) (k + 1) _ _ (by omega) ee mv2
      have s4 : (g' (i + 1)).1 < 128 := by rw [gi]; omega
      have s5 : (g' (i + 1)).2.1 < 128 := by rw [gi]; omega
      have s6 : (g' (i + 1)).2.2.1 < 128 := by rw [gi]; omega
      refine br_f (by decide) (nm_r (nI_1 k) ⟨i1, nm_r (ae_Uc (by omega) (ae_n16 (k + 1) (by omega))) ⟨i1, k1, nm_r (ae_Ug (e := ((g' (i + 1)).1, (g' (i + 1)).2.1, (g' (i + 1)).2.2.1, (g' (i + 1)).2.2.2.1, (g' (i + 1)).2.2.2.2.1, ae_up (ae_up mv' (i + 1) k) (i + 1) (k + 1) (g' (i + 1)).2.2.2.2.2)) (fun e => e.1) (by omega) (ae_nb s4 (ae_Ac (by omega)))) ⟨i1, k1, nm_r (ae_Ug (e := ((g' (i + 1)).1, (g' (i + 1)).2.1, (g' (i + 1)).2.2.1, (g' (i + 1)).2.2.2.1, (g' (i + 1)).2.2.2.2.1, ae_up (ae_up mv' (i + 1) k) (i + 1) (k + 1) (g' (i + 1)).2.2.2.2.2)) (fun e => e.2.1) (by omega) (ae_nb s5 (ae_Ac (by omega)))) ⟨i1, k1, nm_r (ae_Ug (e := ((g' (i + 1)).1, (g' (i + 1)).2.1, (g' (i + 1)).2.2.1, (g' (i + 1)).2.2.2.1, (g' (i + 1)).2.2.2.2.1, ae_up (ae_up mv' (i + 1) k) (i + 1) (k + 1) (g' (i + 1)).2.2.2.2.2)) (fun e => e.2.2.1) (by omega) (ae_nb s6 (ae_Ac (by omega)))) ⟨i1, k1, nm_r (ae_Ug (e := ((g' (i + 1)).1, (g' (i + 1)).2.1, (g' (i + 1)).2.2.1, (g' (i + 1)).2.2.2.1, (g' (i + 1)).2.2.2.2.1, ae_up (ae_up mv' (i + 1) k) (i + 1) (k + 1) (g' (i + 1)).2.2.2.2.2)) (fun e => e.2.2.2.1) (by omega) (ae_Ac (by omega))) ⟨i1, k1, nm_r (ae_Ug (e := ((g' (i + 1)).1, (g' (i + 1)).2.1, (g' (i + 1)).2.2.1, (g' (i + 1)).2.2.2.1, (g' (i + 1)).2.2.2.2.1, ae_up (ae_up mv' (i + 1) k) (i + 1) (k + 1) (g' (i + 1)).2.2.2.2.2)) (fun e => e.2.2.2.2.1) (by omega) (ae_Ac (by omega))) ⟨i1, pk_in _ 301 (by omega) lin, k1, nm_r (ae_Ug (e := ((g' (i + 1)).1, (g' (i + 1)).2.1, (g' (i + 1)).2.2.1, (g' (i + 1)).2.2.2.1, (g' (i + 1)).2.2.2.2.1, ae_up (ae_up mv' (i + 1) k) (i + 1) (k + 1) (g' (i + 1)).2.2.2.2.2)) (fun e => e.2.2.2.2.2) (by omega) ?_) (nm_r (nI_1 (i + 1)) nx)⟩⟩⟩⟩⟩⟩⟩)
      rw [lin, ae_Ac (by omega)]
      exact ae_ns (v := ae_up (ae_up mv' (i + 1) k) (i + 1) (k + 1) (g' (i + 1)).2.2.2.2.2) (by omega) rfl
    · refine br_t rfl (nm_r (nI_1 (i + 1)) (no (fun kk => q (fun m a b c => ?_))))
      rw [ci.2.2.2.2.2.2.1 m (by omega)] at c ⊢
      exact kk.2 m a b c
/-- makeRoom -/
theorem ae_mr {post : St1 → Prop} (h : (ae_X N V cur num fst sk mk se ce le fc hd dc dn cl cf g mv pi fe fn fh ru he wr la ma Z b))
    (H : ∀ (se ce le : Nat) (dc dn cl cf : Nat → Nat) (g : Nat → ae_E) (mv fn fh la ma num fst Z : Nat → Nat) (b : Nat), (ae_X 180 V cur num fst sk mk se ce le fc hd dc dn cl cf g mv pi fe fn fh ru he wr la ma Z b) → post (ae_S se ce le fc hd st dc dn cl cf g mv pi fe fn fh ru he wr la ma)) : wpX_makeRoom post (ae_S se ce le fc hd st dc dn cl cf g mv pi fe fn fh ru he wr la ma) := by
  have h0 := h
  obtain ⟨a1, a2, a3, a4, a5, a6, a7, a8⟩ := h
  unfold wpX_makeRoom
  refine pk_lt 180 le (fun z => ?_) (fun z => H _ _ _ _ _ _ _ _ _ _ _ _ _ _ _ _ _ (ae_XN h0 z (by omega)))
  have hse : se ≤ 300 := by
    have := a2.1
    omega
  refine ae_wa a1 hse (fun se' fh' dc' dn' fst' hl' hfl hz hs' => ?_)
  unfold ae_S
  dsimp only
  have x := ae_Xfl h0 hfl hl'
  refine nm_r (e' := ae_A (ae_up mv 0 0)) (ae_Au (v := 0)) ⟨le + 1, ?_⟩
  have m0 : ∀ j, ae_up mv 0 0 j ≤ 300 := by
    intro j
    by_cases z : j = 0
    · rw [z, ae_us]
      omega
    · rw [ae_un z]
      exact a5 j
  refine ae_mr26 (by omega) a8.1 (fun t ht => (a8.2.2.2 t ht).2.2.1) (fun k g' mv' ci hmv' => ?_) le 0 0 g (ae_up mv 0 0) (by omega) (ae_CI0 ae_us) m0
  refine ae_mr166 hmv' (fun t ht => ?_) (fun t ht => (a8.2.2.2 t ht).2.1) (fun cl' dn2 cf' fn' fh2 la' ma' z1 z2 z3 z4 z5 e1 e2 => ?_)
  · have := (a8.2.2.2 t ht).1
    omega
  · exact H _ _ _ _ _ _ _ _ _ _ _ _ _ _ _ _ _ (ae_Xroom x hz ci hmv' e1 e2 z4 z5 z2 z1 z3)
end
end
section
/-! the engine's methods in normal running -/
theorem ae_upid {α : Type} {f : Nat → α} {k : Nat} : ae_up f k (f k) = f := by
  funext j
  by_cases z : j = k
  · rw [z, ae_us]
  · rw [ae_un z]
theorem ae_upup {α : Type} {f : Nat → α} {k : Nat} {v w : α} : ae_up (ae_up f k v) k w = ae_up f k w := by
  funext j
  by_cases z : j = k
  · rw [z, ae_us, ae_us]
  · rw [ae_un z, ae_un z, ae_un z]
theorem ae_sl : ∀ n, n < 32 → ((nI n &&& 31).toBitVec.smod 32).toNat = n := by decide +kernel
theorem ae_bitv {h c : Nat} (hh : h < 65536) (hc : c < 16) : (nI h >>> (nI c &&& 31)) &&& 1 = nI (h / 2 ^ c % 2) := by
  rw [pk_shrN (by omega) _ c (ae_sl c (by omega))]
  have : h / 2 ^ c ≤ h := Nat.div_le_self _ _
  exact pk_andN (by omega) 1 (by decide)
theorem ae_bit {h c : Nat} (hh : h < 65536) (hc : c < 16) : (nI h >>> (nI c &&& 31)) &&& 1 = 0 ↔ ¬ h.testBit c = true := by
  rw [ae_bitv hh hc]
  have e : h.testBit c = decide (h / 2 ^ c % 2 = 1) := Nat.testBit_eq_decide_div_mod_eq
  have e2 : (nI (h / 2 ^ c % 2) = 0) ↔ h / 2 ^ c % 2 = 0 := nI_eq (b := 0) (by omega) (by omega)
  rw [e2, e, decide_eq_true_iff]
  omega
theorem ae_sh1 : ∀ c, c < 16 → (1 : Int32) <<< (nI c &&& 31) = nI (2 ^ c) := by decide +kernel
theorem ae_nor (a b : Nat) : nI a ||| nI b = nI (a ||| b) := by
  apply Int32.toBitVec_inj.mp
  show BitVec.ofNat 32 a ||| BitVec.ofNat 32 b = BitVec.ofNat 32 (a ||| b)
  exact BitVec.ofNat_or.symm
def ae_bc (h : Nat) : Nat → Nat
  | 0 => 0
  | i + 1 => ae_bc h i + h / 2 ^ i % 2
theorem ae_bcle {h : Nat} : ∀ i, ae_bc h i ≤ i
  | 0 => Nat.le_refl _
  | i + 1 => by
    have := ae_bcle (h := h) i
    show ae_bc h i + h / 2 ^ i % 2 ≤ i + 1
    omega
theorem ae_bcpos {h c : Nat} (hb : h.testBit c = true) : ∀ i, c < i → 0 < ae_bc h i
  | 0, z => absurd z (by omega)
  | i + 1, z => by
    show 0 < ae_bc h i + h / 2 ^ i % 2
    by_cases e : c = i
    · have q : h.testBit c = decide (h / 2 ^ c % 2 = 1) := Nat.testBit_eq_decide_div_mod_eq
      rw [q, decide_eq_true_iff, e] at hb
      omega
    · have := ae_bcpos hb i (by omega)
      omega
section
variable {se ce le fc hd st : Nat} {dc dn cl cf mv pi fe fn fh ru he wr la ma cur num fst : Nat → Nat} {g : Nat → ae_E} {N b : Nat} {V Z mk : Nat → Nat} {sk : Nat → List (Nat × Nat)}
def ae_EN (N : Nat) (V cur ru he wr : Nat → Nat) (sk : Nat → List (Nat × Nat)) (mk : Nat → Nat) (u : St1) : Prop :=
  ∃ (se ce le fc hd st : Nat) (dc dn cl cf : Nat → Nat) (g : Nat → ae_E) (mv pi fe fn fh la ma num fst Z : Nat → Nat) (b : Nat), u = (ae_S se ce le fc hd st dc dn cl cf g mv pi fe fn fh ru he wr la ma) ∧ (ae_X N V cur num fst sk mk se ce le fc hd dc dn cl cf g mv pi fe fn fh ru he wr la ma Z b)
theorem ae_ENi (h : (ae_X N V cur num fst sk mk se ce le fc hd dc dn cl cf g mv pi fe fn fh ru he wr la ma Z b)) : (ae_EN N V cur ru he wr sk mk) (ae_S se ce le fc hd st dc dn cl cf g mv pi fe fn fh ru he wr la ma) := ⟨_, _, _, _, _, _, _, _, _, _, _, _, _, _, _, _, _, _, _, _, _, _, rfl, h⟩
theorem ae_Xse (h : (ae_X N V cur num fst sk mk se ce le fc hd dc dn cl cf g mv pi fe fn fh ru he wr la ma Z b)) : se ≤ 300 ∧ le ≤ 201 := by
  have a := h.2.1.1
  have b := h.2.2.2.2.2.1
  have c := h.2.2.2.2.2.2.1
  omega
theorem ae_read {post : Int32 → St1 → Prop} {u : St1} {c : Nat} (h : (ae_EN N V cur ru he wr sk mk) u) (hc : c < 16) (H : ∀ u', (ae_EN N V cur ru he wr sk mk) u' → post (nI (cur c)) u') : wpX_read post u (nI c) := by
  obtain ⟨se, ce, le, fc, hd, st, dc, dn, cl, cf, g, mv, pi, fe, fn, fh, la, ma, num, fst, Z, b, rfl, x⟩ := h
  exact ae_rd x.1 (ae_Xse x).1 hc (fun hd' se' pi' fe' fn' fh' dc' dn' fst' hfl hl' hs' => H _ (ae_ENi (ae_Xfl x hfl hl')))
def ae_pk (cur : Nat → Nat) : Nat → Int64
  | 0 => 0
  | i + 1 => ae_pk cur i ||| (((nI (cur i) &&& 15).toInt64) <<< ((4 * nI i).toInt64 &&& 63))
theorem ae_cells4 {post : Int64 → St1 → Prop} (H : ∀ u', (ae_EN N V cur ru he wr sk mk) u' → post (ae_pk cur 16) u') : ∀ (k i : Nat) (u_se u_ce u_le u_fc u_hd u_st : Int32) (u_dc u_dn u_cl u_cf u_so u_bw u_wh u_be u_af u_li u_mv u_pi u_fe u_fn u_fh u_ru u_he u_wr u_la u_ma : Nat → Int32), i + k = 16 → (ae_EN N V cur ru he wr sk mk) (u_se, u_ce, u_le, u_fc, u_hd, u_st, u_dc, u_dn, u_cl, u_cf, u_so, u_bw, u_wh, u_be, u_af, u_li, u_mv, u_pi, u_fe, u_fn, u_fh, u_ru, u_he, u_wr, u_la, u_ma) → wL_cells_4 post (k + 1) (ae_pk cur i) (nI i) u_se u_ce u_le u_fc u_hd u_st u_dc u_dn u_cl u_cf u_so u_bw u_wh u_be u_af u_li u_mv u_pi u_fe u_fn u_fh u_ru u_he u_wr u_la u_ma := by
  intro k
  induction k with
  | zero =>
    intro i u_se u_ce u_le u_fc u_hd u_st u_dc u_dn u_cl u_cf u_so u_bw u_wh u_be u_af u_li u_mv u_pi u_fe u_fn u_fh u_ru u_he u_wr u_la u_ma hi h
    refine pk_le 16 i (fun _ => ?_) (fun z => absurd z (by omega))
    rw [show i = 16 by omega]
    exact H _ h
  | succ k ih =>
    intro i u_se u_ce u_le u_fc u_hd u_st u_dc u_dn u_cl u_cf u_so u_bw u_wh u_be u_af u_li u_mv u_pi u_fe u_fn u_fh u_ru u_he u_wr u_la u_ma hi h
    refine pk_le 16 i (fun z => absurd z (by omega)) (fun _ => ae_read h (by omega) (fun u' h' => ?_))
    obtain ⟨u'_se, u'_ce, u'_le, u'_fc, u'_hd, u'_st, u'_dc, u'_dn, u'_cl, u'_cf, u'_so, u'_bw, u'_wh, u'_be, u'_af, u'_li, u'_mv, u'_pi, u'_fe, u'_fn, u'_fh, u'_ru, u'_he, u'_wr, u'_la, u'_ma⟩ := u'
    exact nm_e (nm_r (nI_1 i) (ih (i + 1) u'_se u'_ce u'_le u'_fc u'_hd u'_st u'_dc u'_dn u'_cl u'_cf u'_so u'_bw u'_wh u'_be u'_af u'_li u'_mv u'_pi u'_fe u'_fn u'_fh u'_ru u'_he u'_wr u'_la u'_ma (by omega) h'))
theorem ae_cells {post : Int64 → St1 → Prop} {u : St1} (h : (ae_EN N V cur ru he wr sk mk) u) (H : ∀ u', (ae_EN N V cur ru he wr sk mk) u' → post (ae_pk cur 16) u') : wpL_cells post u := by
  obtain ⟨u_se, u_ce, u_le, u_fc, u_hd, u_st, u_dc, u_dn, u_cl, u_cf, u_so, u_bw, u_wh, u_be, u_af, u_li, u_mv, u_pi, u_fe, u_fn, u_fh, u_ru, u_he, u_wr, u_la, u_ma⟩ := u
  exact ⟨17, ae_cells4 H 16 0 u_se u_ce u_le u_fc u_hd u_st u_dc u_dn u_cl u_cf u_so u_bw u_wh u_be u_af u_li u_mv u_pi u_fe u_fn u_fh u_ru u_he u_wr u_la u_ma (by omega) h⟩
theorem ae_ist {post : Int32 → Prop} {t : Nat} (ht : t < 3) (H : post 1) : wpX_isTransaction post (ae_S se ce le fc hd st dc dn cl cf g mv pi fe fn fh ru he wr la ma) (nI t) := by
  unfold wpX_isTransaction ae_S
  dsimp only
  exact br_f (nI_pos (by omega)) (pk_lt 2 t (fun z => absurd z (by omega)) (fun _ => H))
def ae_hl (ru he : Nat → Nat) (t : Nat) : Nat := if ru t = 0 then 0 else he t
theorem ae_holds {post : Int32 → Prop} {u : St1} {t : Nat} (h : (ae_EN N V cur ru he wr sk mk) u) (ht : t < 3) (H : post (nI (ae_hl ru he t))) : wpX_holds post u (nI t) := by
  obtain ⟨se, ce, le, fc, hd, st, dc, dn, cl, cf, g, mv, pi, fe, fn, fh, la, ma, num, fst, Z, b, rfl, x⟩ := h
  have q := (x.2.2.2.2.2.2.2.2.2.2 t ht).2.2.1
  unfold wpX_holds
  refine ae_ist ht (br_f (by decide) ⟨pk_in t 3 ht, ?_⟩)
  unfold ae_hl at H
  refine pk_eq (ru t) 0 (fun z => ?_) (fun z => ⟨pk_in t 3 ht, ?_⟩) (ae_Ac (by omega))
  · rw [if_pos z] at H
    exact H
  · rw [if_neg z] at H
    rw [ae_Ac (by omega)]
    exact H
theorem ae_begin {post : Int32 → St1 → Prop} {u : St1} {t : Nat} (h : (ae_EN N V cur ru he wr sk mk) u) (ht : t < 3) (H1 : ru t ≠ 0 → post (-3) u)
    (H0 : ru t = 0 → ∀ u', (ae_EN N V cur (ae_up ru t 1) (ae_up he t 0) (ae_up wr t 0) (ae_up sk t []) (ae_up mk t 0)) u' → post (nI t) u') : wpX_begin post u (nI t) := by
  obtain ⟨se, ce, le, fc, hd, st, dc, dn, cl, cf, g, mv, pi, fe, fn, fh, la, ma, num, fst, Z, b, rfl, x⟩ := h
  have q := (x.2.2.2.2.2.2.2.2.2.2 t ht).2.2.1
  have i : vp_in (nI t) 3 := pk_in t 3 ht
  unfold wpX_begin
  refine ae_ist ht (br_f (by decide) ⟨i, ?_⟩)
  refine pk_eq (ru t) 0 (fun z => ?_) (fun z => H1 z) (ae_Ac (by omega))
  exact ⟨i, nm_r (ae_Uc (v := 1) (by omega) rfl) ⟨i, nm_r (ae_Uc (v := 0) (by omega) rfl) ⟨i, nm_r (ae_Uc (v := 0) (by omega) rfl) ⟨i, nm_r (ae_Uc (v := 0) (by omega) rfl) ⟨i, nm_r (ae_Uc (v := 0) (by omega) rfl) (H0 z _ (ae_ENi (ae_Xb x ht z)))⟩⟩⟩⟩⟩
theorem ae_mark {post : Int32 → St1 → Prop} {u : St1} {t : Nat} (h : (ae_EN N V cur ru he wr sk mk) u) (ht : t < 3) (H1 : ru t = 0 → post (-2) u)
    (H0 : ru t ≠ 0 → ∀ u', (ae_EN N V cur ru he wr sk (ae_up mk t (sk t).length)) u' → post (nI t) u') : wpX_mark post u (nI t) := by
  obtain ⟨se, ce, le, fc, hd, st, dc, dn, cl, cf, g, mv, pi, fe, fn, fh, la, ma, num, fst, Z, b, rfl, x⟩ := h
  have q := x.2.2.2.2.2.2.2.2.2.2 t ht
  have q1 := q.2.2.1
  have q2 := q.1
  have q3 := ae_Xse x
  have i : vp_in (nI t) 3 := pk_in t 3 ht
  unfold wpX_mark
  refine ae_ist ht (br_f (by decide) ⟨i, ?_⟩)
  refine pk_eq (ru t) 0 (fun z => H1 z) (fun z => ?_) (ae_Ac (by omega))
  exact ⟨i, i, nm_r (ae_Uc (by omega) (ae_ns (by omega) (ae_Ac (by omega)))) (H0 z _ (ae_ENi (ae_Xm x ht z)))⟩
theorem ae_bits {post : Int32 → Prop} {h : Nat} (hh : h < 65536) (H : post (nI (ae_bc h 16))) : wpX_bitsIn post (ae_S se ce le fc hd st dc dn cl cf g mv pi fe fn fh ru he wr la ma) (nI h) := by
  unfold wpX_bitsIn ae_S
  dsimp only
  refine pk_loop (σ := Unit) (fun n i _ => wX_bitsIn_4 post (nI h) (nI se) (nI ce) (nI le) (nI fc) (nI hd) (nI st) (ae_A dc) (ae_A dn) (ae_A cl) (ae_A cf) (ae_A (fun n => (g n).1)) (ae_A (fun n => (g n).2.1)) (ae_A (fun n => (g n).2.2.1)) (ae_A (fun n => (g n).2.2.2.1)) (ae_A (fun n => (g n).2.2.2.2.1)) (ae_A (fun n => (g n).2.2.2.2.2)) (ae_A mv) (ae_P pi) (ae_A fe) (ae_A fn) (ae_A fh) (ae_A ru) (ae_A he) (ae_A wr) (ae_A la) (ae_A ma) n (nI (ae_bc h i)) (nI i)) (fun i _ => True) 16 0 () (by omega) trivial (fun n _ _ => pk_le 16 16 (fun _ => H) (fun z => absurd z (by omega))) (fun n i _ hi _ hw => ?_)
  refine pk_le 16 i (fun z => absurd z (by omega)) (fun _ => nm_r (e' := nI (ae_bc h (i + 1))) ?_ (nm_r (nI_1 i) (hw () trivial)))
  rw [ae_bitv hh hi, nI_add]
  rfl
/-- c is held by a running transaction other than t -/
def ae_hb (ru he : Nat → Nat) (t c i : Nat) : Prop := ∃ u, u < i ∧ u ≠ t ∧ ru u ≠ 0 ∧ (he u).testBit c = true
theorem ae_check {post : Int32 → Prop} {u : St1} {t c : Nat} (h : (ae_EN N V cur ru he wr sk mk) u) (ht : t < 3) (hc : c < 16) (H2 : ru t = 0 → post (-2)) (H3 : ru t ≠ 0 → ae_hb ru he t c 3 → post (-3))
    (H4 : ru t ≠ 0 → ¬ ae_hb ru he t c 3 → 20 ≤ wr t → post (-4)) (H0 : ru t ≠ 0 → ¬ ae_hb ru he t c 3 → wr t < 20 → post 0) : wpX_check post u (nI t) (nI c) := by
  obtain ⟨se, ce, le, fc, hd, st, dc, dn, cl, cf, g, mv, pi, fe, fn, fh, la, ma, num, fst, Z, b, rfl, x⟩ := h
  have q := fun t ht => x.2.2.2.2.2.2.2.2.2.2 t ht
  have q1 := (q t ht).2.2.1
  have q2 := (q t ht).2.2.2.2.2.1
  have i : vp_in (nI t) 3 := pk_in t 3 ht
  unfold wpX_check
  refine ae_ist ht (br_f (by decide) (br_f (nI_pos (by omega)) (pk_le c 15 (fun _ => ⟨i, ?_⟩) (fun z => absurd z (by omega)))))
  refine pk_eq (ru t) 0 H2 (fun z => ?_) (ae_Ac (by omega))
  refine pk_loop (σ := Unit) (fun n i _ => wX_check_34 post (nI t) (nI c) (nI se) (nI ce) (nI le) (nI fc) (nI hd) (nI st) (ae_A dc) (ae_A dn) (ae_A cl) (ae_A cf) (ae_A (fun n => (g n).1)) (ae_A (fun n => (g n).2.1)) (ae_A (fun n => (g n).2.2.1)) (ae_A (fun n => (g n).2.2.2.1)) (ae_A (fun n => (g n).2.2.2.2.1)) (ae_A (fun n => (g n).2.2.2.2.2)) (ae_A mv) (ae_P pi) (ae_A fe) (ae_A fn) (ae_A fh) (ae_A ru) (ae_A he) (ae_A wr) (ae_A la) (ae_A ma) n (nI i)) (fun i _ => ¬ ae_hb ru he t c i) 3 0 () (by omega) (fun w => ?_) (fun n _ hs => ?_) (fun n j _ hj hs hw => ?_)
  · obtain ⟨u, u1, _⟩ := w
    omega
  · exact pk_le 3 3 (fun _ => ⟨i, pk_lt (wr t) 20 (fun w => H0 z hs w) (fun w => H4 z hs w) (ae_Ac (by omega))⟩) (fun w => absurd w (by omega))
  · have r1 := (q j hj).2.2.1
    have r2 := (q j hj).2.2.2.2.2.2.1
    have nx : ¬ (j ≠ t ∧ ru j ≠ 0 ∧ (he j).testBit c = true) → ¬ ae_hb ru he t c (j + 1) := by
      intro w v
      obtain ⟨u, u1, u2⟩ := v
      by_cases e : u = j
      · rw [e] at u2
        exact w u2
      · exact hs ⟨u, by omega, u2⟩
    refine pk_le 3 j (fun w => absurd w (by omega)) (fun _ => ?_)
    refine pk_eq j t (fun w => nm_r (nI_1 j) (hw () (nx (fun v => v.1 w)))) (fun w => ⟨pk_in j 3 hj, ?_⟩)
    refine pk_eq (ru j) 0 (fun v => nm_r (nI_1 j) (hw () (nx (fun y => y.2.1 v)))) (fun v => ⟨pk_in j 3 hj, ?_⟩) (ae_Ac (by omega))
    rw [ae_Ac (by omega)]
    exact ek_if (ae_bit r2 hc) (fun y => nm_r (nI_1 j) (hw () (nx (fun k => y k.2.2)))) (fun y => H3 z ⟨j, hj, w, v, Classical.byContradiction y⟩)
theorem ae_change {post : Int32 → St1 → Prop} {u : St1} {t c v : Nat} (h : (ae_EN N V cur ru he wr sk mk) u) (ht : t < 3) (hc : c < 16) (hr : ru t ≠ 0) (hx : ¬ ae_hb ru he t c 3) (hw : wr t < 20)
    (H : ∀ u', (ae_EN 201 V (ae_up cur c v) ru (ae_up he t (he t ||| 2 ^ c)) (ae_up wr t (wr t + 1)) (ae_up sk t ((c, cur c) :: sk t)) mk) u' → post (nI (ae_bc (he t ||| 2 ^ c) 16)) u') : wpX_change post u (nI t) (nI c) (nI v) := by
  obtain ⟨se, ce, le, fc, hd, st, dc, dn, cl, cf, g, mv, pi, fe, fn, fh, la, ma, num, fst, Z, b, rfl, x⟩ := h
  unfold wpX_change
  refine ae_mr x (fun se ce le dc dn cl cf g mv fn fh la ma num fst Z b x => ?_)
  unfold ae_S
  dsimp only
  rw [ae_sh2 (by omega)]
  have s := ae_Xse x
  have l180 := x.2.2.2.2.2.1
  have q := x.2.2.2.2.2.2.2.2.2.2 t ht
  have q1 := q.1
  have q2 := q.2.2.2.2.2.2.1
  have i : vp_in (nI t) 3 := pk_in t 3 ht
  refine ae_bi x.1 (by omega) s.1 (fun f hd' se' pi' fe' fn' fh' dc' dn' fst' hl' hfl hf hpf hs' => ?_)
  have x' := ae_Xfl x hfl hl'
  have f3 : f < 3 := Nat.lt_of_lt_of_le hf hl'.2.1
  have e := (hl'.2.2.2.2.2.1 f (c / 4) hf hpf).1 (c % 4) (by omega)
  rw [ae_c4] at e
  unfold ae_S
  dsimp only
  rw [ae_fa (by omega)]
  refine ⟨pk_in (4 * f + c % 4) 12 (by omega), nm_r (e' := nI (cur c)) (by rw [ae_Ac (by omega), e]) ⟨i, ?_⟩⟩
  rw [ae_Ac (by omega)]
  refine ae_app (k := 0) (by omega) ht hc (by omega) (by omega) ?_
  unfold ae_S
  dsimp only
  refine ae_apl f3 hc (by omega) (ae_fhb hl' hf (by omega) hpf).1 ?_
  unfold ae_S
  dsimp only
  have pa := ae_PLa (v := v) (n := le + 1) hl' hf hc hpf (by omega) (by omega)
  have nx := ae_Xu (N' := 201) (v := v) x' ht hr hc hw (fun u hu hut ru' hb => hx ⟨u, hu, hut, ru', hb⟩) (by omega) (by omega) pa (ae_PLc hl')
  have h16 : he t ||| 2 ^ c < 65536 := by
    have := (nx.2.2.2.2.2.2.2.2.2.2 t ht).2.2.2.2.2.2.1
    rw [ae_us] at this
    exact this
  have w1 : wr t + 1 < 128 := by omega
  refine ⟨i, i, nm_r (e' := ae_A (ae_up he t (he t ||| 2 ^ c))) ?_ ⟨i, i, nm_r (e' := ae_A (ae_up wr t (wr t + 1))) ?_ ⟨i, ?_⟩⟩⟩
  · rw [ae_Ac (by omega), ae_sh1 c hc, ae_nor, ae_Uc (by omega) rfl]
  · rw [ae_Ac (by omega), nI_1, ae_Uc (by omega) (ae_n8 _ w1)]
  · rw [ae_Ac (by omega), ae_us]
    exact ae_bits h16 (H _ (ae_ENi nx))
theorem ae_write {post : Int32 → St1 → Prop} {u : St1} {t c v : Nat} (h : (ae_EN N V cur ru he wr sk mk) u) (ht : t < 3) (hc : c < 16) (H2 : ru t = 0 → post (-2) u) (H3 : ru t ≠ 0 → ae_hb ru he t c 3 → post (-3) u)
    (H4 : ru t ≠ 0 → ¬ ae_hb ru he t c 3 → 20 ≤ wr t → post (-4) u)
    (H0 : ru t ≠ 0 → ¬ ae_hb ru he t c 3 → wr t < 20 → ∀ u', (ae_EN 201 V (ae_up cur c v) ru (ae_up he t (he t ||| 2 ^ c)) (ae_up wr t (wr t + 1)) (ae_up sk t ((c, cur c) :: sk t)) mk) u' → post (nI (ae_bc (he t ||| 2 ^ c) 16)) u') : wpX_write post u (nI t) (nI c) (nI v) := by
  obtain ⟨u_se, u_ce, u_le, u_fc, u_hd, u_st, u_dc, u_dn, u_cl, u_cf, u_so, u_bw, u_wh, u_be, u_af, u_li, u_mv, u_pi, u_fe, u_fn, u_fh, u_ru, u_he, u_wr, u_la, u_ma⟩ := u
  unfold wpX_write
  dsimp only
  refine ae_check h ht hc (fun a => br_f (by decide) (H2 a)) (fun a b => br_f (by decide) (H3 a b)) (fun a b d => br_f (by decide) (H4 a b d)) (fun a b d => br_t rfl ?_)
  refine ae_change h ht hc a b d (fun u' h' => ?_)
  obtain ⟨u'_se, u'_ce, u'_le, u'_fc, u'_hd, u'_st, u'_dc, u'_dn, u'_cl, u'_cf, u'_so, u'_bw, u'_wh, u'_be, u'_af, u'_li, u'_mv, u'_pi, u'_fe, u'_fn, u'_fh, u'_ru, u'_he, u'_wr, u'_la, u'_ma⟩ := u'
  exact H0 a b d _ h'
theorem ae_commit {post : Int32 → St1 → Prop} {u : St1} {t : Nat} (h : (ae_EN N V cur ru he wr sk mk) u) (ht : t < 3) (H1 : ru t = 0 → post (-2) u)
    (H0 : ru t ≠ 0 → ∀ u', (ae_EN 201 (ae_cm V cur (he t)) cur (ae_up ru t 0) he wr (ae_up sk t []) mk) u' → post (nI (ae_bc (he t) 16)) u') : wpX_commit post u (nI t) := by
  obtain ⟨se, ce, le, fc, hd, st, dc, dn, cl, cf, g, mv, pi, fe, fn, fh, la, ma, num, fst, Z, b, rfl, x⟩ := h
  have q1 := (x.2.2.2.2.2.2.2.2.2.2 t ht).2.2.1
  have i : vp_in (nI t) 3 := pk_in t 3 ht
  unfold wpX_commit
  refine ae_ist ht (br_f (by decide) ⟨i, ?_⟩)
  refine pk_eq (ru t) 0 H1 (fun z => ?_) (ae_Ac (by omega))
  refine ae_mr x (fun se ce le dc dn cl cf g mv fn fh la ma num fst Z b x => ?_)
  unfold ae_S
  dsimp only
  have s := ae_Xse x
  have l180 := x.2.2.2.2.2.1
  have q := x.2.2.2.2.2.2.2.2.2.2 t ht
  have q2 := q.1
  refine ⟨i, ?_⟩
  rw [ae_Ac (by omega)]
  refine ae_app (k := 2) (c := 0) (x := 0) (v := 0) (by omega) ht (by omega) (by omega) (by omega) ?_
  unfold ae_S
  dsimp only
  refine ⟨i, nm_r (ae_Uc (v := 0) (by omega) rfl) ⟨i, ?_⟩⟩
  rw [ae_Ac (by omega)]
  exact ae_bits q.2.2.2.2.2.2.1 (H0 z _ (ae_ENi (ae_Xk (N' := 201) x ht z (by omega) (by omega))))
theorem ae_chP {a b : Nat} : ∀ n, n = a → ae_rc g a b → ∃ P, ae_ch g a = P ++ ae_ch g b := by
  intro n
  induction n using Nat.strongRecOn generalizing a with
  | ind n ih =>
    intro e h
    cases ae_rci h with
    | inl z => exact ⟨[], by rw [z]; rfl⟩
    | inr z =>
      obtain ⟨P, hP⟩ := ih _ (by omega) rfl z.2
      by_cases s : (g a).1 = 0
      · exact ⟨_ :: P, by rw [ae_chu z.1 s, hP]; rfl⟩
      · exact ⟨P, by rw [ae_chc z.1 s, hP]⟩
/-- undoDownTo in normal running; mc: the marks as they stand, ma: the ones that count -/
theorem ae_ud10 {post : Int32 → St1 → Prop} {t : Nat} {mc : Nat → Nat} {D : List (Nat × Nat)} (ht : t < 3) (hr : ru t ≠ 0) (hN : N ≤ 201) (hma : ma t ≤ 300) :
    ∀ (f n x4 : Nat) (P : List (Nat × Nat)) (se le hd st : Nat) (dc dn cur num fst : Nat → Nat) (g : Nat → ae_E) (pi fe fn fh la : Nat → Nat) (sk : Nat → List (Nat × Nat)),
      (ae_X N V cur num fst sk mk se ce le fc hd dc dn cl cf g mv pi fe fn fh ru he wr la ma Z b) → n < f → n ≤ le → ae_rc g (la t) n → ae_rc g n (ma t) → sk t = ae_ch g n → ae_ch g (ma t) = D → sk t = P ++ D → le + P.length ≤ N → P.length < st → st ≤ 100000 → x4 + P.length ≤ 1000 →
      (∀ (se le hd st : Nat) (dc dn num fst : Nat → Nat) (g : Nat → ae_E) (pi fe fn fh la : Nat → Nat), (ae_X N V (ae_ud cur P) num fst (ae_up sk t D) mk se ce le fc hd dc dn cl cf g mv pi fe fn fh ru he wr la ma Z b) → post (nI (x4 + P.length)) (ae_S se ce le fc hd st dc dn cl cf g mv pi fe fn fh ru he wr la mc)) →
      wX_undoDownTo_10 post (nI t) (nI (ma t)) f (nI n) (nI x4) (nI se) (nI ce) (nI le) (nI fc) (nI hd) (nI st) (ae_A dc) (ae_A dn) (ae_A cl) (ae_A cf) (ae_A (fun n => (g n).1)) (ae_A (fun n => (g n).2.1)) (ae_A (fun n => (g n).2.2.1)) (ae_A (fun n => (g n).2.2.2.1)) (ae_A (fun n => (g n).2.2.2.2.1)) (ae_A (fun n => (g n).2.2.2.2.2)) (ae_A mv) (ae_P pi) (ae_A fe) (ae_A fn) (ae_A fh) (ae_A ru) (ae_A he) (ae_A wr) (ae_A la) (ae_A mc) := by
  intro f
  induction f with
  | zero => exact fun n x4 P se le hd st dc dn cur num fst g pi fe fn fh la sk x nf => absurd nf (by omega)
  | succ f ih =>
    intro n x4 P se le hd st dc dn cur num fst g pi fe fn fh la sk x nf nle r1 r2 hsk hD hP hcap hst hst2 hx4 H
    have s := ae_Xse x
    have hnm := ae_rcle _ r2
    refine pk_le n (ma t) (fun z => ?_) (fun z => ?_)
    · have e : n = ma t := by omega
      have p0 : P = [] := by
        rw [hsk, e, hD] at hP
        have := congrArg List.length hP
        rw [List.length_append] at this
        exact List.eq_nil_of_length_eq_zero (by omega)
      have H' := H se le hd st dc dn num fst g pi fe fn fh la
      rw [p0] at H'
      have sd : ae_up sk t D = sk := by
        have : sk t = D := by rw [hP, p0]; rfl
        rw [← this, ae_upid]
      rw [sd] at H'
      exact H' x
    · refine pk_le st 0 (fun y => absurd y (by omega)) (fun y => ⟨pk_in n 301 (by omega), ?_⟩)
      have v := x.2.2.2.2.2.2.2.1 n (by omega) nle
      have r3 : ae_rc g (g n).2.2.2.2.2 (ma t) := by
        cases ae_rci r2 with
        | inl w => omega
        | inr w => exact w.2
      refine pk_eq (g n).1 0 (fun w => ?_) (fun w => ⟨pk_in n 301 (by omega), nm_r (ae_Ac (by omega)) ?_⟩) (ae_Ac (by omega))
      · obtain ⟨p, P', e⟩ : ∃ p P', P = p :: P' := by
          cases P with
          | nil =>
            obtain ⟨P2, hP2⟩ := ae_chP _ rfl r3
            rw [hsk, ae_chu v.2.2.2 w, hP2, hD] at hP
            have := congrArg List.length hP
            rw [List.length_cons, List.length_append, List.nil_append] at this
            omega
          | cons p P' => exact ⟨p, P', rfl⟩
        have hP2 := hP
        rw [hsk, ae_chu v.2.2.2 w, e, List.cons_append, List.cons.injEq] at hP2
        rw [e, List.length_cons] at hcap hst hx4
        refine ae_ue x.1 s.1 (by omega) ht nle v.2.2.1 (by omega) (fun hd' se' pi' fe0 fn0 fh0 fe' fn' fh' dc' dn' fst' hfl hl0 hl' hs' => ?_)
        have xf := ae_Xfl x hfl hl0
        have xc := ae_Xc (N' := N) xf ht hr (by omega) nle w r1 r2 (by omega) hsk (by omega) hN hl' (ae_PLc hl0)
        unfold ae_S
        dsimp only
        refine nm_r (nI_1 x4) (nm_r (e' := nI (st - 1)) ?_ ⟨pk_in n 301 (by omega), nm_r (e' := nI (g n).2.2.2.2.2) ?_ ?_⟩)
        · exact pk_sub (b := 1) (by omega)
        · rw [ae_Ac (by omega), ae_un (by omega)]
        · refine ih (g n).2.2.2.2.2 (x4 + 1) P' _ _ _ _ _ _ _ _ _ _ _ _ _ _ _ _ xc (by omega) (by omega) ?_ ?_ ?_ ?_ ?_ (by omega) (by omega) (by omega) (by omega) ?_
          · rw [ae_us]
            exact ae_rcnew ae_rcr (by show (g n).2.2.2.2.2 ≤ le; omega)
          · exact ae_rcapp r3 (by omega)
          · rw [ae_us, ae_chapp (by omega)]
          · rw [ae_chapp (by omega)]
            exact hD
          · rw [ae_us]
            exact hP2.2
          · intro se2 le2 hd2 st2 dc2 dn2 num2 fst2 g2 pi2 fe2 fn2 fh2 la2 x2
            rw [ae_upup] at x2
            have q := H se2 le2 hd2 st2 dc2 dn2 num2 fst2 g2 pi2 fe2 fn2 fh2 la2
            rw [e, ← hP2.1, List.length_cons] at q
            rw [show x4 + 1 + P'.length = x4 + (P'.length + 1) by omega]
            exact q x2
      · refine ih (g n).2.2.2.2.2 x4 P se le hd st dc dn cur num fst g pi fe fn fh la sk x (by omega) (by omega) (ae_rctr (ae_rcs v.2.2.2 ae_rcr) _ r1) r3 (by rw [hsk, ae_chc v.2.2.2 w]) hD hP hcap hst hst2 hx4 H
end
end
section
/-! abort, back, checkpoint -/
section
variable {se ce le fc hd st : Nat} {dc dn cl cf mv pi fe fn fh ru he wr la ma cur num fst : Nat → Nat} {g : Nat → ae_E} {N b : Nat} {V Z mk : Nat → Nat} {sk : Nat → List (Nat × Nat)}
theorem ae_Xm0 {t : Nat} (h : (ae_X N V cur num fst sk mk se ce le fc hd dc dn cl cf g mv pi fe fn fh ru he wr la ma Z b)) (ht : t < 3) (hr : ru t ≠ 0) : (ae_X N V cur num fst sk (ae_up mk t 0) se ce le fc hd dc dn cl cf g mv pi fe fn fh ru he wr la (ae_up ma t 0) Z b) := by
  obtain ⟨h1, h2, h3, h4, h5, h6, h7, h8⟩ := h
  obtain ⟨hv, hk, hd, ht1⟩ := h8
  refine ⟨h1, h2, h3, h4, h5, h6, h7, hv, hk, hd, fun u hu => ?_⟩
  by_cases z : u = t
  · rw [z]
    obtain ⟨a1, a2, a3, a4, a5, a6, a7, a8, a9, a10⟩ := ht1 t ht
    unfold ae_T1
    rw [ae_us, ae_us]
    refine ⟨a1, by omega, a3, a4, a5, a6, a7, a8, a9, fun hr => ?_⟩
    obtain ⟨b1, b2, b3, b4⟩ := a10 hr
    exact ⟨b1, ae_rc0 hv _ a1, by rw [ae_ch0]; rfl, b4⟩
  · exact ae_T1s (ht1 u hu) rfl rfl rfl rfl (ae_un z) rfl (ae_un z)
theorem ae_Xm1 {t : Nat} {ma' mk' : Nat → Nat} (h : (ae_X N V cur num fst sk mk' se ce le fc hd dc dn cl cf g mv pi fe fn fh ru he wr la ma' Z b)) (ht : t < 3) (hr : ru t = 0) (hm : ma t ≤ 300) (e1 : ∀ u, u ≠ t → ma u = ma' u) (e2 : ∀ u, u ≠ t → mk u = mk' u) : (ae_X N V cur num fst sk mk se ce le fc hd dc dn cl cf g mv pi fe fn fh ru he wr la ma Z b) := by
  obtain ⟨h1, h2, h3, h4, h5, h6, h7, h8⟩ := h
  obtain ⟨hv, hk, hd, ht1⟩ := h8
  refine ⟨h1, h2, h3, h4, h5, h6, h7, hv, hk, hd, fun u hu => ?_⟩
  by_cases z : u = t
  · rw [z]
    obtain ⟨a1, a2, a3, a4, a5, a6, a7, a8, a9, a10⟩ := ht1 t ht
    exact ⟨a1, hm, a3, a4, a5, a6, a7, a8, a9, fun w => absurd hr w⟩
  · exact ae_T1s (ht1 u hu) rfl rfl rfl rfl (e1 u z) rfl (e2 u z)
theorem ae_udn {post : Int32 → St1 → Prop} {t : Nat} {mc : Nat → Nat} {P : List (Nat × Nat)} (x : (ae_X 180 V cur num fst sk mk se ce le fc hd dc dn cl cf g mv pi fe fn fh ru he wr la ma Z b)) (ht : t < 3) (hr : ru t ≠ 0) (hP : sk t = P ++ ae_ch g (ma t))
    (H : ∀ (se le hd st : Nat) (dc dn num fst : Nat → Nat) (g' : Nat → ae_E) (pi fe fn fh la : Nat → Nat), (ae_X 200 V (ae_ud cur P) num fst (ae_up sk t (ae_ch g (ma t))) mk se ce le fc hd dc dn cl cf g' mv pi fe fn fh ru he wr la ma Z b) → post (nI P.length) (ae_S se ce le fc hd st dc dn cl cf g' mv pi fe fn fh ru he wr la mc)) : wpX_undoDownTo post (ae_S se ce le fc hd 100000 dc dn cl cf g mv pi fe fn fh ru he wr la mc) (nI t) (nI (ma t)) := by
  have q := x.2.2.2.2.2.2.2.2.2.2 t ht
  have s := ae_Xse x
  have l180 := x.2.2.2.2.2.1
  have sr := ae_T1r q hr
  have len : P.length ≤ 20 := by
    have a := q.2.2.2.2.2.1
    have b := q.2.2.2.2.2.2.2.2.1
    rw [hP, List.length_append] at b
    omega
  have q1 := q.1
  have q2 := q.2.1
  obtain ⟨b1, b2, b3, b4⟩ := q.2.2.2.2.2.2.2.2.2 hr
  unfold wpX_undoDownTo ae_S
  dsimp only
  refine ⟨pk_in t 3 ht, nm_r (ae_Ac (by omega)) ⟨la t + 1, ?_⟩⟩
  refine ae_ud10 (N := 200) (D := ae_ch g (ma t)) (mc := mc) ht hr (by omega) q2 (la t + 1) (la t) 0 P _ _ _ 100000 _ _ _ _ _ _ _ _ _ _ _ _ (ae_XN x (by omega) (by omega)) (by omega) q1 ae_rcr b2 sr.1 rfl hP (by omega) (by omega) (by omega) (by omega) ?_
  intro se2 le2 hd2 st2 dc2 dn2 num2 fst2 g2 pi2 fe2 fn2 fh2 la2 x2
  rw [Nat.zero_add]
  exact H se2 le2 hd2 st2 dc2 dn2 num2 fst2 g2 pi2 fe2 fn2 fh2 la2 x2
theorem ae_abort {post : Int32 → St1 → Prop} {u : St1} {t : Nat} (h : (ae_EN N V cur ru he wr sk mk) u) (ht : t < 3) (H1 : ru t = 0 → post (-2) u)
    (H0 : ru t ≠ 0 → ∀ u', (ae_EN 201 V (ae_ud cur (sk t)) (ae_up ru t 0) he wr (ae_up sk t []) mk) u' → post (nI (ae_bc (he t) 16)) u') : wpX_abort post u (nI t) := by
  obtain ⟨se, ce, le, fc, hd, st, dc, dn, cl, cf, g, mv, pi, fe, fn, fh, la, ma, num, fst, Z, b, rfl, x⟩ := h
  have q1 := (x.2.2.2.2.2.2.2.2.2.2 t ht).2.2.1
  have i : vp_in (nI t) 3 := pk_in t 3 ht
  unfold wpX_abort
  refine ae_ist ht (br_f (by decide) ⟨i, ?_⟩)
  refine pk_eq (ru t) 0 H1 (fun z => ?_) (ae_Ac (by omega))
  refine ae_mr x (fun se ce le dc dn cl cf g mv fn fh la ma num fst Z b x => ?_)
  unfold ae_S
  dsimp only
  have m300 := (x.2.2.2.2.2.2.2.2.2.2 t ht).2.1
  have x0 := ae_Xm0 x ht z
  have l0 : (0 : Int32) = nI (ae_up ma t 0 t) := by rw [ae_us]; rfl
  rw [l0]
  refine ae_udn (P := sk t) (mc := ma) x0 ht z (by rw [ae_us, ae_ch0, List.append_nil]) (fun se le hd st dc dn num fst g' pi fe fn fh la x1 => ?_)
  rw [ae_us, ae_ch0] at x1
  unfold ae_S
  dsimp only
  have s := ae_Xse x1
  have l200 := x1.2.2.2.2.2.1
  have q := x1.2.2.2.2.2.2.2.2.2.2 t ht
  have q2 := q.1
  refine ⟨i, ?_⟩
  rw [ae_Ac (by omega), ae_us]
  refine ae_app (k := 3) (c := 0) (x := 0) (v := 0) (by omega) ht (by omega) (by omega) (by omega) ?_
  unfold ae_S
  dsimp only
  refine ⟨i, nm_r (ae_Uc (v := 0) (by omega) rfl) ⟨i, ?_⟩⟩
  rw [ae_Ac (by omega)]
  have x2 := ae_Xe (N' := 201) x1 ht ae_us (by omega) (by omega)
  rw [ae_upup] at x2
  exact ae_bits q.2.2.2.2.2.2.1 (H0 z _ (ae_ENi (ae_Xm1 x2 ht ae_us m300 (fun u hu => (ae_un hu).symm) (fun u hu => (ae_un hu).symm))))
theorem ae_back {post : Int32 → St1 → Prop} {u : St1} {t : Nat} (h : (ae_EN N V cur ru he wr sk mk) u) (ht : t < 3) (H1 : ru t = 0 → post (-2) u)
    (H0 : ru t ≠ 0 → mk t ≤ (sk t).length → ∀ u', (ae_EN 201 V (ae_ud cur ((sk t).take ((sk t).length - mk t))) ru he wr (ae_up sk t ((sk t).drop ((sk t).length - mk t))) mk) u' → post (nI ((sk t).length - mk t)) u') : wpX_back post u (nI t) := by
  obtain ⟨se, ce, le, fc, hd, st, dc, dn, cl, cf, g, mv, pi, fe, fn, fh, la, ma, num, fst, Z, b, rfl, x⟩ := h
  have q1 := (x.2.2.2.2.2.2.2.2.2.2 t ht).2.2.1
  have i : vp_in (nI t) 3 := pk_in t 3 ht
  unfold wpX_back
  refine ae_ist ht (br_f (by decide) ⟨i, ?_⟩)
  refine pk_eq (ru t) 0 H1 (fun z => ?_) (ae_Ac (by omega))
  refine ae_mr x (fun se ce le dc dn cl cf g mv fn fh la ma num fst Z b x => ?_)
  unfold ae_S
  dsimp only
  have q := x.2.2.2.2.2.2.2.2.2.2 t ht
  have sr := ae_T1r q z
  obtain ⟨b1, b2, b3, b4⟩ := q.2.2.2.2.2.2.2.2.2 z
  obtain ⟨P, hP⟩ := ae_chP _ rfl b2
  rw [← sr.1] at hP
  have len : (sk t).length = P.length + mk t := by rw [hP, List.length_append, b3]
  have eP : (sk t).take ((sk t).length - mk t) = P := by
    rw [show (sk t).length - mk t = P.length by omega, hP, List.take_left' rfl]
  have eD : (sk t).drop ((sk t).length - mk t) = ae_ch g (ma t) := by
    rw [show (sk t).length - mk t = P.length by omega, hP, List.drop_left' rfl]
  have H' := H0 z (by omega)
  rw [eP, eD, show (sk t).length - mk t = P.length by omega] at H'
  refine ⟨i, ?_⟩
  rw [ae_Ac (by omega)]
  refine ae_udn (P := P) (mc := ma) x ht z hP (fun se le hd st dc dn num fst g' pi fe fn fh la x1 => ?_)
  exact H' _ (ae_ENi (ae_XN x1 (Nat.le_trans x1.2.2.2.2.2.1 (by omega)) (by omega)))
def ae_rn (ru : Nat → Nat) : Nat → Nat
  | 0 => 0
  | i + 1 => ae_rn ru i + (if ru i = 0 then 0 else 1)
theorem ae_run {post : Int32 → Prop} (hru : ∀ t, t < 3 → ru t ≤ 1) (H : post (nI (ae_rn ru 3))) : wpX_runningCount post (ae_S se ce le fc hd st dc dn cl cf g mv pi fe fn fh ru he wr la ma) := by
  unfold wpX_runningCount ae_S
  dsimp only
  refine pk_loop (σ := Unit) (fun n i _ => wX_runningCount_4 post (nI se) (nI ce) (nI le) (nI fc) (nI hd) (nI st) (ae_A dc) (ae_A dn) (ae_A cl) (ae_A cf) (ae_A (fun n => (g n).1)) (ae_A (fun n => (g n).2.1)) (ae_A (fun n => (g n).2.2.1)) (ae_A (fun n => (g n).2.2.2.1)) (ae_A (fun n => (g n).2.2.2.2.1)) (ae_A (fun n => (g n).2.2.2.2.2)) (ae_A mv) (ae_P pi) (ae_A fe) (ae_A fn) (ae_A fh) (ae_A ru) (ae_A he) (ae_A wr) (ae_A la) (ae_A ma) n (nI (ae_rn ru i)) (nI i)) (fun i _ => True) 3 0 () (by omega) trivial (fun n _ _ => pk_le 3 3 (fun _ => H) (fun z => absurd z (by omega))) (fun n i _ hi _ hw => ?_)
  have r := hru i hi
  have w := hw () trivial
  refine pk_le 3 i (fun z => absurd z (by omega)) (fun _ => ⟨pk_in i 3 hi, pk_eq (ru i) 0 (fun z => nm_r (nI_1 i) ?_) (fun z => nm_r (nI_1 _) (nm_r (nI_1 i) ?_)) (ae_Ac (by omega))⟩)
  · have e : ae_rn ru (i + 1) = ae_rn ru i := by
      show ae_rn ru i + (if ru i = 0 then 0 else 1) = _
      rw [if_pos z, Nat.add_zero]
    rw [e] at w
    exact w
  · have e : ae_rn ru (i + 1) = ae_rn ru i + 1 := by
      show ae_rn ru i + (if ru i = 0 then 0 else 1) = _
      rw [if_neg z]
    rw [e] at w
    exact w
theorem ae_ck76 {post : Int32 → St1 → Prop} (hl : ae_PL fc hd pi fe fn fh dc dn cur num fst) (hru : ∀ t, t < 3 → ru t ≤ 1) (hz : ae_zr 4 cf)
    (H : ∀ cf' : Nat → Nat, (∀ p, p < 4 → cf' p = fst p) → post (nI (ae_rn ru 3)) (ae_S se ce le fc hd st dc dn cl cf' g mv pi fe fn fh ru he wr la ma)) : ∃ n, wX_checkpoint_76 post (nI se) (nI ce) (nI le) (nI fc) (nI hd) (nI st) n 0 (ae_A dc) (ae_A dn) (ae_A cl) (ae_A cf) (ae_A (fun n => (g n).1)) (ae_A (fun n => (g n).2.1)) (ae_A (fun n => (g n).2.2.1)) (ae_A (fun n => (g n).2.2.2.1)) (ae_A (fun n => (g n).2.2.2.2.1)) (ae_A (fun n => (g n).2.2.2.2.2)) (ae_A mv) (ae_P pi) (ae_A fe) (ae_A fn) (ae_A fh) (ae_A ru) (ae_A he) (ae_A wr) (ae_A la) (ae_A ma) := by
  have f3 := hl.2.1
  refine pk_loop (fun n i s => wX_checkpoint_76 post (nI se) (nI ce) (nI le) (nI fc) (nI hd) (nI st) n (nI i) (ae_A dc) (ae_A dn) (ae_A cl) s (ae_A (fun n => (g n).1)) (ae_A (fun n => (g n).2.1)) (ae_A (fun n => (g n).2.2.1)) (ae_A (fun n => (g n).2.2.2.1)) (ae_A (fun n => (g n).2.2.2.2.1)) (ae_A (fun n => (g n).2.2.2.2.2)) (ae_A mv) (ae_P pi) (ae_A fe) (ae_A fn) (ae_A fh) (ae_A ru) (ae_A he) (ae_A wr) (ae_A la) (ae_A ma)) (fun i s => ∃ a : Nat → Nat, s = ae_A a ∧ ∀ p, p < 4 → ((∃ f, f < i ∧ pi f = p + 1) → a p = fst p) ∧ ((∀ f, f < i → pi f ≠ p + 1) → a p = 0)) fc 0 (ae_A cf) (by omega) ⟨cf, rfl, fun p hp => ⟨fun ⟨f, hf, _⟩ => absurd hf (by omega), fun _ => hz p hp⟩⟩ (fun n s hs => ?_) (fun n i s hi hs hw => ?_)
  · obtain ⟨a, rfl, ha⟩ := hs
    refine pk_le fc fc (fun _ => ae_run hru (H a (fun p hp => ?_))) (fun z => absurd z (by omega))
    by_cases q : ∃ f, f < fc ∧ pi f = p + 1
    · exact (ha p hp).1 q
    · rw [(ha p hp).2 (fun f hf e => q ⟨f, hf, e⟩), hl.2.2.2.2.2.2.1 p hp (fun f hf e => q ⟨f, hf, e⟩)]
  · obtain ⟨a, rfl, ha⟩ := hs
    refine pk_le fc i (fun z => absurd z (by omega)) (fun _ => ⟨pk_in i 3 (by omega), ?_⟩)
    by_cases z : pi i = 0
    · refine br_t (ae_Pneg (by omega) z) (nm_r (nI_1 i) (hw _ ⟨a, rfl, fun p hp => ⟨fun ⟨f, hf, e⟩ => ?_, fun w => (ha p hp).2 (fun f hf => w f (by omega))⟩⟩))
      by_cases y : f = i
      · rw [y, z] at e
        omega
      · exact (ha p hp).1 ⟨f, by omega, e⟩
    · obtain ⟨p, e⟩ : ∃ p, pi i = p + 1 := ⟨pi i - 1, by omega⟩
      have p4 : p < 4 := by
        have := hl.2.2.2.1 i hi
        omega
      have b := ae_fhb hl hi p4 e
      have c := (hl.2.2.2.2.2.1 i p hi e).2.2
      have pe : ae_P pi (nI i).toNatClampNeg = nI p := ae_Pc (by omega) e
      refine br_f (ae_Ppos (by omega) e p4) ⟨pk_in i 3 (by omega), pk_in i 3 (by omega), pk_in p 4 p4 pe, nm_r (e' := ae_A (ae_up a p (fh i))) ?_ (nm_r (nI_1 i) (hw _ ⟨_, rfl, fun p' hp' => ⟨fun ⟨f, hf, e'⟩ => ?_, fun w => ?_⟩⟩))⟩
      · rw [pe]
        exact ae_Uc (by omega) (ae_ns (by omega) (ae_Ac (by omega)))
      · by_cases y : p' = p
        · rw [y, ae_us, c]
        · rw [ae_un y]
          refine (ha p' hp').1 ⟨f, ?_, e'⟩
          by_cases k : f = i
          · rw [k, e] at e'
            omega
          · omega
      · have y : p' ≠ p := fun y => w i (by omega) (by rw [e, y])
        rw [ae_un y]
        exact (ha p' hp').2 (fun f hf => w f (by omega))
theorem ae_ck56 {post : Int32 → St1 → Prop} (hl : ae_PL fc hd pi fe fn fh dc dn cur num fst) (hru : ∀ t, t < 3 → ru t ≤ 1)
    (H : ∀ cf' : Nat → Nat, (∀ p, p < 4 → cf' p = fst p) → post (nI (ae_rn ru 3)) (ae_S se ce le fc hd st dc dn cl cf' g mv pi fe fn fh ru he wr la ma)) : ∃ n, wX_checkpoint_56 post (nI se) (nI ce) (nI le) (nI fc) (nI hd) (nI st) n 0 (ae_A dc) (ae_A dn) (ae_A cl) (ae_A cf) (ae_A (fun n => (g n).1)) (ae_A (fun n => (g n).2.1)) (ae_A (fun n => (g n).2.2.1)) (ae_A (fun n => (g n).2.2.2.1)) (ae_A (fun n => (g n).2.2.2.2.1)) (ae_A (fun n => (g n).2.2.2.2.2)) (ae_A mv) (ae_P pi) (ae_A fe) (ae_A fn) (ae_A fh) (ae_A ru) (ae_A he) (ae_A wr) (ae_A la) (ae_A ma) := by
  refine pk_loop (fun n i s => wX_checkpoint_56 post (nI se) (nI ce) (nI le) (nI fc) (nI hd) (nI st) n (nI i) (ae_A dc) (ae_A dn) (ae_A cl) s (ae_A (fun n => (g n).1)) (ae_A (fun n => (g n).2.1)) (ae_A (fun n => (g n).2.2.1)) (ae_A (fun n => (g n).2.2.2.1)) (ae_A (fun n => (g n).2.2.2.2.1)) (ae_A (fun n => (g n).2.2.2.2.2)) (ae_A mv) (ae_P pi) (ae_A fe) (ae_A fn) (ae_A fh) (ae_A ru) (ae_A he) (ae_A wr) (ae_A la) (ae_A ma)) (fun i s => ∃ a : Nat → Nat, s = ae_A a ∧ ae_zr i a) 4 0 (ae_A cf) (by omega) ⟨cf, rfl, fun j hj => absurd hj (by omega)⟩ (fun n s hs => ?_) (fun n i s hi hs hw => ?_)
  · obtain ⟨a, rfl, ha⟩ := hs
    exact pk_le 4 4 (fun _ => ae_ck76 hl hru ha H) (fun z => absurd z (by omega))
  · obtain ⟨a, rfl, ha⟩ := hs
    exact pk_le 4 i (fun z => absurd z (by omega)) (fun _ => ⟨pk_in i 4 hi, nm_r (ae_Uc (v := 0) (by omega) rfl) (nm_r (nI_1 i) (hw (ae_A (ae_up a i 0)) ⟨_, rfl, ae_zr1 ha⟩))⟩)
theorem ae_ckp {post : Int32 → St1 → Prop} {u : St1} (h : (ae_EN N V cur ru he wr sk mk) u) (H : ∀ u', (ae_EN N V cur ru he wr sk mk) u' → post (nI (ae_rn ru 3)) u') : wpX_checkpoint post u := by
  obtain ⟨se, ce, le, fc, hd, st, dc, dn, cl, cf, g, mv, pi, fe, fn, fh, la, ma, num, fst, Z, b, rfl, x⟩ := h
  have hru : ∀ t, t < 3 → ru t ≤ 1 := fun t ht => (x.2.2.2.2.2.2.2.2.2.2 t ht).2.2.1
  have hla : ∀ t, t < 3 → la t ≤ le := fun t ht => (x.2.2.2.2.2.2.2.2.2.2 t ht).1
  have s := ae_Xse x
  unfold wpX_checkpoint ae_S
  dsimp only
  refine pk_loop (fun n i s => wX_checkpoint_18 post (nI le) (nI le) (nI le) (nI fc) (nI hd) (nI st) n (nI i) (ae_A dc) (ae_A dn) s (ae_A cf) (ae_A (fun n => (g n).1)) (ae_A (fun n => (g n).2.1)) (ae_A (fun n => (g n).2.2.1)) (ae_A (fun n => (g n).2.2.2.1)) (ae_A (fun n => (g n).2.2.2.2.1)) (ae_A (fun n => (g n).2.2.2.2.2)) (ae_A mv) (ae_P pi) (ae_A fe) (ae_A fn) (ae_A fh) (ae_A ru) (ae_A he) (ae_A wr) (ae_A la) (ae_A ma)) (fun i s => ∃ a : Nat → Nat, s = ae_A a ∧ ∀ t, t < i → a t = if ru t = 0 then 0 else la t) 3 0 (ae_A cl) (by omega) ⟨cl, rfl, fun j hj => absurd hj (by omega)⟩ (fun n s hs => ?_) (fun n i s hi hs hw => ?_)
  · obtain ⟨a, rfl, ha⟩ := hs
    exact pk_le 3 3 (fun _ => ae_ck56 x.1 hru (fun cf' hcf => H _ (ae_ENi (ae_Xck x ha hcf)))) (fun z => absurd z (by omega))
  · obtain ⟨a, rfl, ha⟩ := hs
    have r1 := hru i hi
    have r2 := hla i hi
    have i3 : vp_in (nI i) 3 := pk_in i 3 hi
    have nx : ∀ v, v = (if ru i = 0 then 0 else la i) → ∀ t, t < i + 1 → ae_up a i v t = if ru t = 0 then 0 else la t := by
      intro v hv t ht
      by_cases z : t = i
      · rw [z, ae_us, hv]
      · rw [ae_un z]
        exact ha t (by omega)
    refine pk_le 3 i (fun z => absurd z (by omega)) (fun _ => ⟨i3, pk_eq (ru i) 0 (fun z => ⟨i3, nm_r (ae_Uc (v := 0) (by omega) rfl) (nm_r (nI_1 i) (hw _ ⟨_, rfl, nx 0 (by rw [if_pos z])⟩))⟩) (fun z => ⟨i3, i3, nm_r (ae_Uc (by omega) (ae_ns (by omega) (ae_Ac (by omega)))) (nm_r (nI_1 i) (hw _ ⟨_, rfl, nx (la i) (by rw [if_neg z])⟩))⟩) (ae_Ac (by omega))⟩)
end
end
section
/-! crashes and restarts -/
def ae_zz (f : Nat → Nat) : Nat → Nat → Nat
  | 0 => f
  | i + 1 => ae_up (ae_zz f i) i 0
theorem ae_zlt {f : Nat → Nat} : ∀ i j, j < i → ae_zz f i j = 0
  | 0, j, h => absurd h (by omega)
  | i + 1, j, h => by
    show ae_up (ae_zz f i) i 0 j = 0
    by_cases z : j = i
    · rw [z, ae_us]
    · rw [ae_un z]
      exact ae_zlt i j (by omega)
theorem ae_zge {f : Nat → Nat} : ∀ i j, i ≤ j → ae_zz f i j = f j
  | 0, _, _ => rfl
  | i + 1, j, h => by
    show ae_up (ae_zz f i) i 0 j = f j
    rw [ae_un (by omega)]
    exact ae_zge i j (by omega)
theorem ae_zzz {f : Nat → Nat} {i : Nat} : ae_zz (ae_zz f i) i = ae_zz f i := by
  funext j
  by_cases h : j < i
  · rw [ae_zlt i j h, ae_zlt i j h]
  · rw [ae_zge i j (by omega)]
theorem ae_PU0 {f : Nat → Nat} {k : Nat} (h : k < 2 ^ 31) : upd (ae_P f) (nI k).toNatClampNeg (-1) = ae_P (ae_up f k 0) := by
  rw [nI_clamp h]
  funext j
  show (if j = k then (-1 : Int32) else nI (f j) - 1) = nI (if j = k then 0 else f j) - 1
  by_cases z : j = k
  · rw [if_pos z, if_pos z]
    decide
  · rw [if_neg z, if_neg z]
section
variable {se ce le fc hd st : Nat} {dc dn cl cf mv pi fe fn fh ru he wr la ma cur num fst : Nat → Nat} {g : Nat → ae_E} {N b : Nat} {V Z mk : Nat → Nat} {sk : Nat → List (Nat × Nat)}
theorem ae_lm30 {post : St1 → Prop} (H : post (ae_S se ce le fc hd st dc dn cl cf g mv pi fe fn fh (ae_zz ru 3) he wr (ae_zz la 3) ma)) : ∃ n, wX_loseMemory_30 post (nI se) (nI ce) (nI le) (nI fc) (nI hd) (nI st) n 0 (ae_A dc) (ae_A dn) (ae_A cl) (ae_A cf) (ae_A (fun n => (g n).1)) (ae_A (fun n => (g n).2.1)) (ae_A (fun n => (g n).2.2.1)) (ae_A (fun n => (g n).2.2.2.1)) (ae_A (fun n => (g n).2.2.2.2.1)) (ae_A (fun n => (g n).2.2.2.2.2)) (ae_A mv) (ae_P pi) (ae_A fe) (ae_A fn) (ae_A fh) (ae_A ru) (ae_A he) (ae_A wr) (ae_A la) (ae_A ma) := by
  refine pk_loop (σ := Unit) (fun n i _ => wX_loseMemory_30 post (nI se) (nI ce) (nI le) (nI fc) (nI hd) (nI st) n (nI i) (ae_A dc) (ae_A dn) (ae_A cl) (ae_A cf) (ae_A (fun n => (g n).1)) (ae_A (fun n => (g n).2.1)) (ae_A (fun n => (g n).2.2.1)) (ae_A (fun n => (g n).2.2.2.1)) (ae_A (fun n => (g n).2.2.2.2.1)) (ae_A (fun n => (g n).2.2.2.2.2)) (ae_A mv) (ae_P pi) (ae_A fe) (ae_A fn) (ae_A fh) (ae_A (ae_zz ru i)) (ae_A he) (ae_A wr) (ae_A (ae_zz la i)) (ae_A ma)) (fun i _ => True) 3 0 () (by omega) trivial (fun n _ _ => pk_le 3 3 (fun _ => H) (fun z => absurd z (by omega))) (fun n i _ hi _ hw => ?_)
  exact pk_le 3 i (fun z => absurd z (by omega)) (fun _ => ⟨pk_in i 3 hi, nm_r (ae_Uc (v := 0) (by omega) rfl) ⟨pk_in i 3 hi, nm_r (ae_Uc (v := 0) (by omega) rfl) (nm_r (nI_1 i) (hw () trivial))⟩⟩)
theorem ae_lm {post : St1 → Prop} (H : post (ae_S se ce se fc hd st dc dn cl cf g mv (ae_zz pi 3) fe fn fh (ae_zz ru 3) he wr (ae_zz la 3) ma)) : wpX_loseMemory post (ae_S se ce le fc hd st dc dn cl cf g mv pi fe fn fh ru he wr la ma) := by
  unfold wpX_loseMemory ae_S
  dsimp only
  refine pk_loop (σ := Unit) (fun n i _ => wX_loseMemory_10 post (nI se) (nI ce) (nI se) (nI fc) (nI hd) (nI st) n (nI i) (ae_A dc) (ae_A dn) (ae_A cl) (ae_A cf) (ae_A (fun n => (g n).1)) (ae_A (fun n => (g n).2.1)) (ae_A (fun n => (g n).2.2.1)) (ae_A (fun n => (g n).2.2.2.1)) (ae_A (fun n => (g n).2.2.2.2.1)) (ae_A (fun n => (g n).2.2.2.2.2)) (ae_A mv) (ae_P (ae_zz pi i)) (ae_A fe) (ae_A fn) (ae_A fh) (ae_A ru) (ae_A he) (ae_A wr) (ae_A la) (ae_A ma)) (fun i _ => True) 3 0 () (by omega) trivial (fun n _ _ => pk_le 3 3 (fun _ => ae_lm30 H) (fun z => absurd z (by omega))) (fun n i _ hi _ hw => ?_)
  exact pk_le 3 i (fun z => absurd z (by omega)) (fun _ => ⟨pk_in i 3 hi, nm_r (ae_PU0 (by omega)) (nm_r (nI_1 i) (hw () trivial))⟩)
theorem ae_fl {post : St1 → Prop} (hc : ce ≤ le) (hle : le ≤ 300) (hv : ae_VL g le) (hcl : ∀ t, t < 3 → cl t = ae_LL g ce t) (H : ∀ la' : Nat → Nat, (∀ t, t < 3 → la' t = ae_LL g le t) → post (ae_S se ce le fc hd st dc dn cl cf g mv pi fe fn fh ru he wr la' ma)) : wpX_findLosers post (ae_S se ce le fc hd st dc dn cl cf g mv pi fe fn fh ru he wr la ma) := by
  unfold wpX_findLosers ae_S
  dsimp only
  refine pk_loop (fun n i s => wX_findLosers_2 post (nI se) (nI ce) (nI le) (nI fc) (nI hd) (nI st) n (nI i) (ae_A dc) (ae_A dn) (ae_A cl) (ae_A cf) (ae_A (fun n => (g n).1)) (ae_A (fun n => (g n).2.1)) (ae_A (fun n => (g n).2.2.1)) (ae_A (fun n => (g n).2.2.2.1)) (ae_A (fun n => (g n).2.2.2.2.1)) (ae_A (fun n => (g n).2.2.2.2.2)) (ae_A mv) (ae_P pi) (ae_A fe) (ae_A fn) (ae_A fh) (ae_A ru) (ae_A he) (ae_A wr) s (ae_A ma)) (fun i s => ∃ a : Nat → Nat, s = ae_A a ∧ ∀ t, t < i → a t = cl t) 3 0 (ae_A la) (by omega) ⟨la, rfl, fun j hj => absurd hj (by omega)⟩ (fun n s hs => ?_) (fun n i s hi hs hw => ?_)
  · obtain ⟨a, rfl, ha⟩ := hs
    refine pk_le 3 3 (fun _ => nm_r (nI_1 ce) ?_) (fun z => absurd z (by omega))
    refine pk_loop (fun n i s => wX_findLosers_32 post (nI se) (nI ce) (nI le) (nI fc) (nI hd) (nI st) n (nI (i + 1)) (ae_A dc) (ae_A dn) (ae_A cl) (ae_A cf) (ae_A (fun n => (g n).1)) (ae_A (fun n => (g n).2.1)) (ae_A (fun n => (g n).2.2.1)) (ae_A (fun n => (g n).2.2.2.1)) (ae_A (fun n => (g n).2.2.2.2.1)) (ae_A (fun n => (g n).2.2.2.2.2)) (ae_A mv) (ae_P pi) (ae_A fe) (ae_A fn) (ae_A fh) (ae_A ru) (ae_A he) (ae_A wr) s (ae_A ma)) (fun i s => ∃ a : Nat → Nat, s = ae_A a ∧ ∀ t, t < 3 → a t = ae_LL g i t) le ce (ae_A a) hc ⟨a, rfl, fun t ht => by rw [ha t ht, hcl t ht]⟩ (fun n s hs => ?_) (fun n i s hi hs hw => ?_)
    · obtain ⟨a, rfl, ha⟩ := hs
      exact pk_lt le (le + 1) (fun _ => H a ha) (fun z => absurd z (by omega))
    · obtain ⟨a, rfl, ha⟩ := hs
      have v := hv (i + 1) (by omega) (by omega)
      have i3 : vp_in (nI (i + 1)) 301 := pk_in (i + 1) 301 (by omega)
      have bw : ae_A (fun n => (g n).2.1) (nI (i + 1)).toNatClampNeg = nI (g (i + 1)).2.1 := ae_Ac (by omega)
      have nx : ∀ x, x = (if (g (i + 1)).1 < 2 then i + 1 else 0) → ∀ t, t < 3 → ae_up a (g (i + 1)).2.1 x t = ae_LL g (i + 1) t := by
        intro x hx t ht
        rw [ae_LLs]
        by_cases z : t = (g (i + 1)).2.1
        · rw [z, ae_us, if_pos rfl, hx]
        · rw [ae_un z, if_neg (fun w => z w.symm)]
          exact ha t ht
      refine pk_lt le (i + 1) (fun z => absurd z (by omega)) (fun _ => ⟨i3, i3, ?_⟩)
      rw [bw]
      refine pk_lt (g (i + 1)).1 2 (fun z => ⟨pk_in _ 3 v.2.1, nm_r (ae_Uc (by omega) (ae_n16 (i + 1) (by omega))) (nm_r (nI_1 (i + 1)) (hw _ ⟨_, rfl, nx _ (by rw [if_pos z])⟩))⟩) (fun z => ⟨pk_in _ 3 v.2.1, nm_r (ae_Uc (v := 0) (by omega) rfl) (nm_r (nI_1 (i + 1)) (hw _ ⟨_, rfl, nx _ (by rw [if_neg (by omega)])⟩))⟩) (ae_Ac (by omega))
  · obtain ⟨a, rfl, ha⟩ := hs
    have l := ae_LLle (g := g) (t := i) ce
    have c := hcl i hi
    refine pk_le 3 i (fun z => absurd z (by omega)) (fun _ => ⟨pk_in i 3 hi, pk_in i 3 hi, nm_r (ae_Uc (by omega) (ae_ns (by omega) (ae_Ac (by omega)))) (nm_r (nI_1 i) (hw _ ⟨_, rfl, fun t ht => ?_⟩))⟩)
    by_cases z : t = i
    · rw [z, ae_us]
    · rw [ae_un z]
      exact ha t (by omega)
theorem ae_da48 {post : St1 → Prop} {s st0 : Nat} (hs : s ≤ 264) (hv : ae_VL g s)
    (H : ∀ (m hd st : Nat) (dc dn cur num fst pi fe fn fh : Nat → Nat), ae_PL fc hd pi fe fn fh dc dn cur num fst → ae_RB g Z s b m dc dn cur num fst → (m = s + 1 ∨ st = 0) → m ≤ s + 1 → st0 ≤ st + m → st ≤ 100000 → post (ae_S s ce s fc hd st dc dn cl cf g mv pi fe fn fh ru he wr la ma)) :
    ∀ (d m hd st : Nat) (dc dn cur num fst pi fe fn fh : Nat → Nat), m + d = s + 1 → b < m → ae_PL fc hd pi fe fn fh dc dn cur num fst → ae_RB g Z s b m dc dn cur num fst → st0 ≤ st + m → st ≤ 100000 → wX_doAgain_48 post (d + 1) (nI m) (nI s) (nI ce) (nI s) (nI fc) (nI hd) (nI st) (ae_A dc) (ae_A dn) (ae_A cl) (ae_A cf) (ae_A (fun n => (g n).1)) (ae_A (fun n => (g n).2.1)) (ae_A (fun n => (g n).2.2.1)) (ae_A (fun n => (g n).2.2.2.1)) (ae_A (fun n => (g n).2.2.2.2.1)) (ae_A (fun n => (g n).2.2.2.2.2)) (ae_A mv) (ae_P pi) (ae_A fe) (ae_A fn) (ae_A fh) (ae_A ru) (ae_A he) (ae_A wr) (ae_A la) (ae_A ma) := by
  intro d
  induction d with
  | zero =>
    intro m hd st dc dn cur num fst pi fe fn fh hm hb hl hr h0 h1
    exact pk_lt s m (fun _ => H m hd st dc dn cur num fst pi fe fn fh hl hr (Or.inl (by omega)) (by omega) h0 h1) (fun z => absurd z (by omega))
  | succ d ih =>
    intro m hd st dc dn cur num fst pi fe fn fh hm hb hl hr h0 h1
    have v := hv m (by omega) (by omega)
    have i3 : vp_in (nI m) 301 := pk_in m 301 (by omega)
    refine pk_lt s m (fun z => absurd z (by omega)) (fun _ => ?_)
    refine pk_le st 0 (fun z => H m hd st dc dn cur num fst pi fe fn fh hl hr (Or.inr (by omega)) (by omega) h0 h1) (fun z => ⟨i3, ?_⟩)
    refine pk_lt (g m).1 2 (fun y => ⟨i3, ?_⟩) (fun y => nm_r (nI_1 m) (ih (m + 1) hd st dc dn cur num fst pi fe fn fh (by omega) (by omega) hl (ae_RBskip hr (fun w => absurd w (by omega))) (by omega) h1)) (ae_Ac (by omega))
    rw [ae_Ac (by omega), ae_sh2 (by omega)]
    refine ae_bi hl (by omega) (by omega) (fun f hd' se' pi' fe' fn' fh' dc' dn' fst' hl' hfl hf hpf hs' => ?_)
    have es : se' = s := ae_RBse hr hfl
    subst es
    have hr' := ae_RBfl hr hfl
    have f3 : f < 3 := Nat.lt_of_lt_of_le hf hl'.2.1
    have nf := (hl'.2.2.2.2.2.1 f _ hf hpf).2.1
    have bf := ae_fhb hl' hf (by omega) hpf
    unfold ae_S
    dsimp only
    refine ⟨pk_in f 3 f3, ?_⟩
    refine pk_lt (fn' f) m (fun w => ⟨i3, i3, ?_⟩) (fun w => nm_r (nI_1 m) (ih (m + 1) hd' st dc' dn' cur num fst' pi' fe' fn' fh' (by omega) (by omega) hl' (ae_RBskip hr' (fun _ => by omega)) (by omega) h1)) (ae_Ac (by omega))
    rw [ae_Ac (by omega), ae_Ac (by omega)]
    refine ae_ap f3 v.2.2.1 (by omega) bf.1 ?_
    unfold ae_S
    dsimp only
    refine nm_r (e' := nI (st - 1)) (pk_sub (b := 1) (by omega)) (nm_r (nI_1 m) ?_)
    exact ih (m + 1) hd' (st - 1) dc' dn' _ _ _ pi' _ _ _ (by omega) (by omega) (ae_PLa hl' hf v.2.2.1 hpf (by omega) (by omega)) (ae_RBdo hr' hb (by omega) y (by omega)) (by omega) (by omega)
theorem ae_da {post : St1 → Prop} {s st0 : Nat} (hs : s ≤ 264) (hv : ae_VL g s) (hck : ae_CK g s ce b cl cf) (hst : st ≤ 100000) (hst0 : st0 ≤ st + (b + 1)) (hl : ae_PL fc hd pi fe fn fh dc dn cur num fst) (hr : ae_RB g Z s b (b + 1) dc dn cur num fst)
    (H : ∀ (m hd st : Nat) (dc dn cur num fst pi fe fn fh : Nat → Nat), ae_PL fc hd pi fe fn fh dc dn cur num fst → ae_RB g Z s b m dc dn cur num fst → (m = s + 1 ∨ st = 0) → m ≤ s + 1 → st0 ≤ st + m → st ≤ 100000 → post (ae_S s ce s fc hd st dc dn cl cf g mv pi fe fn fh ru he wr la ma)) : wpX_doAgain post (ae_S s ce s fc hd st dc dn cl cf g mv pi fe fn fh ru he wr la ma) := by
  unfold wpX_doAgain ae_S
  dsimp only
  have c1 := hck.1
  refine nm_r (nI_1 ce) ?_
  refine pk_loop (σ := Unit) (fun n i _ => wX_doAgain_9 post (nI s) (nI ce) (nI s) (nI fc) (nI hd) (nI st) (ae_A dc) (ae_A dn) (ae_A cl) (ae_A cf) (ae_A (fun n => (g n).1)) (ae_A (fun n => (g n).2.1)) (ae_A (fun n => (g n).2.2.1)) (ae_A (fun n => (g n).2.2.2.1)) (ae_A (fun n => (g n).2.2.2.2.1)) (ae_A (fun n => (g n).2.2.2.2.2)) (ae_A mv) (ae_P pi) (ae_A fe) (ae_A fn) (ae_A fh) (ae_A ru) (ae_A he) (ae_A wr) (ae_A la) (ae_A ma) n (nI (ae_fr cf (ce + 1) i)) (nI i)) (fun i _ => True) 4 0 () (by omega) trivial (fun n _ _ => pk_le 4 4 (fun _ => ⟨s - b + 1, ?_⟩) (fun z => absurd z (by omega))) (fun n i _ hi _ hw => ?_)
  · have e := hck.2.1
    have hb := hr.1
    show wX_doAgain_48 post (s - b + 1) (nI (ae_fr cf (ce + 1) 4)) (nI s) (nI ce) (nI s) (nI fc) (nI hd) (nI st) (ae_A dc) (ae_A dn) (ae_A cl) (ae_A cf) (ae_A (fun n => (g n).1)) (ae_A (fun n => (g n).2.1)) (ae_A (fun n => (g n).2.2.1)) (ae_A (fun n => (g n).2.2.2.1)) (ae_A (fun n => (g n).2.2.2.2.1)) (ae_A (fun n => (g n).2.2.2.2.2)) (ae_A mv) (ae_P pi) (ae_A fe) (ae_A fn) (ae_A fh) (ae_A ru) (ae_A he) (ae_A wr) (ae_A la) (ae_A ma)
    rw [e]
    exact ae_da48 hs hv H (s - b) (b + 1) hd st dc dn cur num fst pi fe fn fh (by omega) (by omega) hl hr hst0 hst
  · have c3 := hck.2.2.1 i hi
    have f1 := ae_frle (cf := cf) (a := ce + 1) i
    have i4 : vp_in (nI i) 4 := pk_in i 4 hi
    have w := hw () trivial
    have es : ae_fr cf (ce + 1) (i + 1) = ae_m1 (ae_fr cf (ce + 1) i) (cf i) := rfl
    rw [es] at w
    unfold ae_m1 at w
    refine pk_le 4 i (fun z => absurd z (by omega)) (fun _ => ⟨i4, ?_⟩)
    refine pk_eq (cf i) 0 (fun z => nm_r (nI_1 i) ?_) (fun z => ⟨i4, ?_⟩) (ae_Ac (by omega))
    · rw [if_pos z] at w
      exact w
    · rw [if_neg z] at w
      refine pk_le (ae_fr cf (ce + 1) i) (cf i) (fun y => nm_r (nI_1 i) ?_) (fun y => ⟨i4, nm_r (ae_Ac (by omega)) (nm_r (nI_1 i) ?_)⟩) rfl (ae_Ac (by omega))
      · rw [if_pos y] at w
        exact w
      · rw [if_neg (by omega)] at w
        exact w
theorem ae_udr {post : Int32 → St1 → Prop} {t st0 : Nat} (ht : t < 3)
    (H : ∀ (x4 se le hd st : Nat) (dc dn cur num fst : Nat → Nat) (g : Nat → ae_E) (pi fe fn fh la : Nat → Nat), ae_UB V cur num fst se ce le fc hd dc dn cl cf g mv pi fe fn fh he wr la ma Z b → (∀ u, u < t → ae_LL g le u = 0) → ae_LL g le t ≠ 0 → (st = 0 ∨ ae_ch g (ae_LL g le t) = []) → st0 ≤ st + le → st ≤ 100000 → post (nI x4) (ae_S se ce le fc hd st dc dn cl cf g mv pi fe fn fh ru he wr la ma)) :
    ∀ (f n x4 se le hd st : Nat) (dc dn cur num fst : Nat → Nat) (g : Nat → ae_E) (pi fe fn fh la : Nat → Nat), ae_UB V cur num fst se ce le fc hd dc dn cl cf g mv pi fe fn fh he wr la ma Z b → (∀ u, u < t → ae_LL g le u = 0) → ae_LL g le t ≠ 0 → n < f → n ≤ le → ae_ch g (ae_LL g le t) = ae_ch g n → st0 ≤ st + le → st ≤ 100000 →
      wX_undoDownTo_10 post (nI t) 0 f (nI n) (nI x4) (nI se) (nI ce) (nI le) (nI fc) (nI hd) (nI st) (ae_A dc) (ae_A dn) (ae_A cl) (ae_A cf) (ae_A (fun n => (g n).1)) (ae_A (fun n => (g n).2.1)) (ae_A (fun n => (g n).2.2.1)) (ae_A (fun n => (g n).2.2.2.1)) (ae_A (fun n => (g n).2.2.2.2.1)) (ae_A (fun n => (g n).2.2.2.2.2)) (ae_A mv) (ae_P pi) (ae_A fe) (ae_A fn) (ae_A fh) (ae_A ru) (ae_A he) (ae_A wr) (ae_A la) (ae_A ma) := by
  intro f
  induction f with
  | zero => exact fun n x4 se le hd st dc dn cur num fst g pi fe fn fh la x h0 h1 nf => absurd nf (by omega)
  | succ f ih =>
    intro n x4 se le hd st dc dn cur num fst g pi fe fn fh la x h0 hl0 nf nle hch hs0 hs1
    have q := ae_UBle x
    refine pk_le n 0 (fun z => ?_) (fun z => ?_)
    · have e : n = 0 := by omega
      rw [e, ae_ch0] at hch
      exact H x4 se le hd st dc dn cur num fst g pi fe fn fh la x h0 hl0 (Or.inr hch) hs0 hs1
    · refine pk_le st 0 (fun y => H x4 se le hd st dc dn cur num fst g pi fe fn fh la x h0 hl0 (Or.inl (by omega)) hs0 hs1) (fun y => ⟨pk_in n 301 (by omega), ?_⟩)
      have v := x.2.2.2.2.2.1 n (by omega) nle
      refine pk_eq (g n).1 0 (fun w => ?_) (fun w => ⟨pk_in n 301 (by omega), nm_r (ae_Ac (by omega)) ?_⟩) (ae_Ac (by omega))
      · refine ae_ue x.1 (by omega) (by omega) ht nle v.2.2.1 (by omega) (fun hd' se' pi' fe0 fn0 fh0 fe' fn' fh' dc' dn' fst' hfl hpl0 hpl' hs' => ?_)
        have xf := ae_UBfl x hfl hpl0
        have xc := ae_UBc xf ht h0 (by omega) nle w hl0 hch hpl' (ae_PLc hpl0)
        unfold ae_S
        dsimp only
        refine nm_r (nI_1 x4) (nm_r (e' := nI (st - 1)) ?_ ⟨pk_in n 301 (by omega), nm_r (e' := nI (g n).2.2.2.2.2) ?_ ?_⟩)
        · exact pk_sub (b := 1) (by omega)
        · rw [ae_Ac (by omega), ae_un (by omega)]
        · have o1 : (1 : Nat) < 2 := by omega
          have o2 : (1 : Nat) ≠ 0 := by omega
          refine ih (g n).2.2.2.2.2 (x4 + 1) _ _ _ _ _ _ _ _ _ _ _ _ _ _ _ xc (fun u hu => ?_) ?_ (by omega) (by omega) ?_ (by omega) (by omega)
          · rw [ae_LLapp_o (fun k => by have k' : t = u := k; omega)]
            exact h0 u hu
          · rw [ae_LLapp_d (t := t) rfl o1]
            omega
          · rw [ae_LLapp_d (t := t) rfl o1, ae_chapp_c o2 (by show (g n).2.2.2.2.2 ≤ le; omega), ae_chapp (by omega)]
      · exact ih (g n).2.2.2.2.2 x4 se le hd st dc dn cur num fst g pi fe fn fh la x h0 hl0 (by omega) (by omega) (by rw [hch, ae_chc v.2.2.2 w]) hs0 hs1
/-- the steps are used up -/
theorem ae_rs0 {post : St1 → Prop} (hla : ∀ t, t < 3 → la t ≤ 300) (H : post (ae_S se ce le fc hd 0 dc dn cl cf g mv pi fe fn fh ru he wr la ma)) : ∀ (d t : Nat), t + d = 3 → wX_restart_15 post (d + 1) (nI t) (nI se) (nI ce) (nI le) (nI fc) (nI hd) (nI 0) (ae_A dc) (ae_A dn) (ae_A cl) (ae_A cf) (ae_A (fun n => (g n).1)) (ae_A (fun n => (g n).2.1)) (ae_A (fun n => (g n).2.2.1)) (ae_A (fun n => (g n).2.2.2.1)) (ae_A (fun n => (g n).2.2.2.2.1)) (ae_A (fun n => (g n).2.2.2.2.2)) (ae_A mv) (ae_P pi) (ae_A fe) (ae_A fn) (ae_A fh) (ae_A ru) (ae_A he) (ae_A wr) (ae_A la) (ae_A ma) := by
  intro d
  induction d with
  | zero =>
    intro t ht
    exact pk_le 3 t (fun _ => pk_le 0 0 (fun _ => H) (fun z => absurd z (by omega))) (fun z => absurd z (by omega))
  | succ d ih =>
    intro t ht
    have l := hla t (by omega)
    exact pk_le 3 t (fun z => absurd z (by omega)) (fun _ => ⟨pk_in t 3 (by omega), pk_eq (la t) 0 (fun z => nm_r (nI_1 t) (ih (t + 1) (by omega))) (fun z => pk_lt 0 0 (fun y => absurd y (by omega)) (fun y => nm_r (nI_1 t) (ih (t + 1) (by omega)))) (ae_Ac (by omega))⟩)
theorem ae_rs {post : St1 → Prop} {st0 : Nat} (hru : ∀ t, t < 3 → ru t = 0) (Hf : ∀ u', ae_EN 201 V V ru he wr (fun _ => []) mk u' → post u')
    (Hp : st0 ≤ 300 → ∀ (se le hd : Nat) (dc dn : Nat → Nat) (g : Nat → ae_E) (pi fe fn fh la : Nat → Nat), ae_D V se ce fc hd dc dn cl cf g mv he wr ma Z b → post (ae_S se ce le fc hd 0 dc dn cl cf g mv pi fe fn fh ru he wr la ma)) :
    ∀ (d t se le hd st : Nat) (dc dn cur num fst : Nat → Nat) (g : Nat → ae_E) (pi fe fn fh la : Nat → Nat), t + d = 3 → ae_UB V cur num fst se ce le fc hd dc dn cl cf g mv pi fe fn fh he wr la ma Z b → (∀ u, u < t → ae_LL g le u = 0) → 0 < st → st0 ≤ st + le → st ≤ 100000 →
      wX_restart_15 post (d + 1) (nI t) (nI se) (nI ce) (nI le) (nI fc) (nI hd) (nI st) (ae_A dc) (ae_A dn) (ae_A cl) (ae_A cf) (ae_A (fun n => (g n).1)) (ae_A (fun n => (g n).2.1)) (ae_A (fun n => (g n).2.2.1)) (ae_A (fun n => (g n).2.2.2.1)) (ae_A (fun n => (g n).2.2.2.2.1)) (ae_A (fun n => (g n).2.2.2.2.2)) (ae_A mv) (ae_P pi) (ae_A fe) (ae_A fn) (ae_A fh) (ae_A ru) (ae_A he) (ae_A wr) (ae_A la) (ae_A ma) := by
  intro d
  induction d with
  | zero =>
    intro t se le hd st dc dn cur num fst g pi fe fn fh la ht x h0 hst hs0 hs1
    have t3 : t = 3 := by omega
    have q := ae_UBle x
    have hV := ae_UBV x (fun u hu => h0 u (by omega))
    refine pk_le 3 t (fun _ => pk_le st 0 (fun z => absurd z (by omega)) (fun _ => ?_)) (fun z => absurd z (by omega))
    refine ae_cll x.1 (by omega) (fun fst' fn' fh' fh'' dc' dn' dn'' cl' cf' hl hz z1 z2 z3 z4 z5 => ?_)
    exact Hf _ (ae_ENi (ae_Xnew hl hV hz x.2.2.2.2.1 x.2.2.2.2.2.2.2 hru (fun t ht => by rw [x.2.2.2.2.2.2.1 t ht]; exact h0 t (by omega)) z4 z5 z2 z1 z3))
  | succ d ih =>
    intro t se le hd st dc dn cur num fst g pi fe fn fh la ht x h0 hst hs0 hs1
    have q := ae_UBle x
    have t3 : t < 3 := by omega
    have i3 : vp_in (nI t) 3 := pk_in t 3 t3
    have lt := x.2.2.2.2.2.2.1 t t3
    have ll := ae_LLle (g := g) (t := t) le
    refine pk_le 3 t (fun z => absurd z (by omega)) (fun _ => ⟨i3, ?_⟩)
    refine pk_eq (la t) 0 (fun z => nm_r (nI_1 t) (ih (t + 1) se le hd st dc dn cur num fst g pi fe fn fh la (by omega) x (fun u hu => ?_) hst hs0 hs1)) (fun z => ?_) (ae_Ac (by omega))
    · by_cases e : u = t
      · rw [e, ← lt]
        exact z
      · exact h0 u (by omega)
    · refine pk_lt 0 st (fun _ => ?_) (fun y => absurd y (by omega))
      unfold wpX_undoDownTo
      refine ⟨i3, nm_r (ae_Ac (by omega)) ⟨la t + 1, ?_⟩⟩
      refine ae_udr (st0 := st0) t3 ?_ (la t + 1) (la t) 0 se le hd st dc dn cur num fst g pi fe fn fh la x h0 (by omega) (by omega) (by omega) (by rw [lt]) hs0 hs1
      intro x4 se le hd st dc dn cur num fst g pi fe fn fh la x h0 hl0 hor hs0 hs1
      have q := ae_UBle x
      have lt := x.2.2.2.2.2.2.1 t t3
      have ll := ae_LLle (g := g) (t := t) le
      unfold ae_S
      dsimp only
      refine pk_lt 0 st (fun y => ⟨i3, ?_⟩) (fun y => nm_r (nI_1 t) ?_)
      · have hch : ae_ch g (ae_LL g le t) = [] := by
          cases hor with
          | inl w => omega
          | inr w => exact w
        rw [ae_Ac (by omega)]
        refine ae_app (k := 3) (c := 0) (x := 0) (v := 0) (by omega) t3 (by omega) (by omega) (by omega) ?_
        unfold ae_S
        dsimp only
        refine ⟨i3, nm_r (e' := ae_A (ae_up (ae_up la t (le + 1)) t 0)) (ae_Uc (v := 0) (by omega) rfl) (nm_r (nI_1 t) ?_)⟩
        have x2 := ae_UBe (la' := ae_up (ae_up la t (le + 1)) t 0) x t3 hl0 hch ae_us (fun u hu => by rw [ae_un hu, ae_un hu])
        refine ih (t + 1) _ _ _ _ _ _ _ _ _ _ _ _ _ _ _ (by omega) x2 (fun u hu => ?_) y (by omega) hs1
        by_cases e : u = t
        · rw [e, ae_LLapp_e rfl (by show ¬ (3 : Nat) < 2; omega)]
        · rw [ae_LLapp_o (fun k => by have k' : t = u := k; omega)]
          exact h0 u (by omega)
      · have e : st = 0 := by omega
        subst e
        refine ae_rs0 (fun u hu => ?_) (Hp (by omega) se le hd dc dn g pi fe fn fh la (ae_UBD x)) d (t + 1) (by omega)
        have a := x.2.2.2.2.2.2.1 u hu
        have b := ae_LLle (g := g) (t := u) le
        omega
theorem ae_restart {post : St1 → Prop} {st0 : Nat} (x : ae_D V se ce fc hd dc dn cl cf g mv he wr ma Z b) (hpi : ∀ f, f < 3 → pi f = 0) (hru : ∀ t, t < 3 → ru t = 0) (hs0 : st0 ≤ 100000)
    (Hf : ∀ u', ae_EN 201 V V ru he wr (fun _ => []) mk u' → post u')
    (Hp : st0 ≤ 600 → ∀ (se le hd : Nat) (dc dn : Nat → Nat) (g : Nat → ae_E) (pi fe fn fh la : Nat → Nat), ae_D V se ce fc hd dc dn cl cf g mv he wr ma Z b → post (ae_S se ce le fc hd 0 dc dn cl cf g mv pi fe fn fh ru he wr la ma)) : wpX_restart post (ae_S se ce se fc hd st dc dn cl cf g mv pi fe fn fh ru he wr la ma) (nI st0) := by
  obtain ⟨h1, h2, h3, h4, h5, h6, h7, h8, h9, h10, h11, h12⟩ := x
  have x0 : ae_D V se ce fc hd dc dn cl cf g mv he wr ma Z b := ⟨h1, h2, h3, h4, h5, h6, h7, h8, h9, h10, h11, h12⟩
  have s264 : se ≤ 264 := by
    unfold ae_F at h6
    omega
  unfold wpX_restart
  refine ae_fl (le := se) (st := st0) h8.1 (by omega) h4 h8.2.2.2 (fun la' hla => ?_)
  unfold ae_S
  dsimp only
  have pl : ae_PL fc hd pi fe fn fh dc dn dc dn (fun _ => 0) := by
    refine ⟨h1, h2, h3, fun f hf => by rw [hpi f (by omega)]; omega, fun f k hf hk e hz => absurd (hpi f (by omega)) hz, fun f p hf e => ?_, fun _ _ _ => rfl, fun p hp _ => ⟨rfl, fun _ _ => rfl⟩, fun p hp => ⟨?_, Nat.zero_le _⟩⟩
    · rw [hpi f (by omega)] at e
      omega
    · have := h10 p hp
      omega
  have rb : ae_RB g Z se b (b + 1) dc dn dc dn (fun _ => 0) := ⟨h9, fun p hp => ⟨h10 p hp, h10 p hp, Nat.zero_le _⟩, h7, h7, fun n n0 n1 => absurd n0 (by omega)⟩
  refine ae_da (st0 := st0) s264 h4 h8 hs0 (by omega) pl rb (fun m hd st dc dn cur num fst pi fe fn fh hl hr hor hm hst hst1 => ?_)
  unfold ae_S
  dsimp only
  have lab : ∀ t, t < 3 → la' t ≤ 300 := fun t ht => by
    have a := hla t ht
    have b := ae_LLle (g := g) (t := t) se
    omega
  by_cases z : st = 0
  · subst z
    refine ⟨4, ae_rs0 lab (Hp (by omega) se se hd dc dn g pi fe fn fh la' ?_) 3 0 (by omega)⟩
    exact ⟨hl.1, hl.2.1, hl.2.2.1, h4, h5, h6, hr.2.2.1, h8, h9, fun p hp => (hr.2.1 p hp).2.1, h11, h12⟩
  · have me : m = se + 1 := by
      cases hor with
      | inl w => exact w
      | inr w => exact absurd w z
    rw [me] at hr hst
    have ub : ae_UB V cur num fst se ce se fc hd dc dn cl cf g mv pi fe fn fh he wr la' ma Z b := by
      refine ⟨hl, ae_RBfin hr, fun s a c => ?_, h8, h11, h4, hla, h12⟩
      rw [show s = se by omega]
      exact ⟨h5, h6⟩
    refine ⟨4, ae_rs (st0 := st0 - 1) (mk := mk) hru Hf (fun w => Hp (by omega)) 3 0 se se hd st dc dn cur num fst g pi fe fn fh la' (by omega) ub (fun u hu => absurd hu (by omega)) (by omega) (by omega) hst1⟩
theorem ae_crash {post : Int32 → St1 → Prop} {u : St1} (h : (ae_EN N V cur ru he wr sk mk) u) (H : ∀ u', ae_EN 201 V V (ae_zz ru 3) he wr (fun _ => []) mk u' → post (nI (ae_rn ru 3)) u') : wpX_crash post u := by
  obtain ⟨se, ce, le, fc, hd, st, dc, dn, cl, cf, g, mv, pi, fe, fn, fh, la, ma, num, fst, Z, b, rfl, x⟩ := h
  have hru : ∀ t, t < 3 → ru t ≤ 1 := fun t ht => (x.2.2.2.2.2.2.2.2.2.2 t ht).2.2.1
  unfold wpX_crash
  refine ae_run hru (ae_lm ?_)
  unfold ae_S
  dsimp only
  refine ae_restart (st0 := 100000) (mk := mk) (ae_XD x) (fun f hf => ae_zlt 3 f hf) (fun t ht => ae_zlt 3 t ht) (by omega) (fun u' h' => ?_) (fun w => absurd w (by omega))
  obtain ⟨u'_se, u'_ce, u'_le, u'_fc, u'_hd, u'_st, u'_dc, u'_dn, u'_cl, u'_cf, u'_so, u'_bw, u'_wh, u'_be, u'_af, u'_li, u'_mv, u'_pi, u'_fe, u'_fn, u'_fh, u'_ru, u'_he, u'_wr, u'_la, u'_ma⟩ := u'
  exact H _ h'
theorem ae_ct30 {post : Int32 → St1 → Prop} {r : Int32} {z0 : Nat} (x : ae_D V se ce fc hd dc dn cl cf g mv he wr ma Z b) (hpi : ∀ f, f < 3 → pi f = 0) (hz : z0 ≤ 40)
    (H : ∀ u', ae_EN 201 V V (ae_zz ru 3) he wr (fun _ => []) mk u' → post r u') : wX_crashTwice_30 post r (nI z0) (nI se) (nI ce) (nI se) (nI fc) (nI hd) (nI st) (ae_A dc) (ae_A dn) (ae_A cl) (ae_A cf) (ae_A (fun n => (g n).1)) (ae_A (fun n => (g n).2.1)) (ae_A (fun n => (g n).2.2.1)) (ae_A (fun n => (g n).2.2.2.1)) (ae_A (fun n => (g n).2.2.2.2.1)) (ae_A (fun n => (g n).2.2.2.2.2)) (ae_A mv) (ae_P pi) (ae_A fe) (ae_A fn) (ae_A fh) (ae_A (ae_zz ru 3)) (ae_A he) (ae_A wr) (ae_A la) (ae_A ma) := by
  unfold wX_crashTwice_30
  have again : ∀ (se ce le fc hd st : Nat) (dc dn cl cf : Nat → Nat) (g : Nat → ae_E) (mv pi fe fn fh la ma Z : Nat → Nat) (b : Nat), ae_D V se ce fc hd dc dn cl cf g mv he wr ma Z b → wpX_loseMemory (fun u => match u with | (u2_se, u2_ce, u2_le, u2_fc, u2_hd, u2_st, u2_dc, u2_dn, u2_cl, u2_cf, u2_so, u2_bw, u2_wh, u2_be, u2_af, u2_li, u2_mv, u2_pi, u2_fe, u2_fn, u2_fh, u2_ru, u2_he, u2_wr, u2_la, u2_ma) => wpX_restart (fun u => match u with | (u3_se, u3_ce, u3_le, u3_fc, u3_hd, u3_st, u3_dc, u3_dn, u3_cl, u3_cf, u3_so, u3_bw, u3_wh, u3_be, u3_af, u3_li, u3_mv, u3_pi, u3_fe, u3_fn, u3_fh, u3_ru, u3_he, u3_wr, u3_la, u3_ma) => post r (u3_se, u3_ce, u3_le, u3_fc, u3_hd, u3_st, u3_dc, u3_dn, u3_cl, u3_cf, u3_so, u3_bw, u3_wh, u3_be, u3_af, u3_li, u3_mv, u3_pi, u3_fe, u3_fn, u3_fh, u3_ru, u3_he, u3_wr, u3_la, u3_ma)) (u2_se, u2_ce, u2_le, u2_fc, u2_hd, u2_st, u2_dc, u2_dn, u2_cl, u2_cf, u2_so, u2_bw, u2_wh, u2_be, u2_af, u2_li, u2_mv, u2_pi, u2_fe, u2_fn, u2_fh, u2_ru, u2_he, u2_wr, u2_la, u2_ma) 100000) (ae_S se ce le fc hd st dc dn cl cf g mv pi fe fn fh (ae_zz ru 3) he wr la ma) := by
    intro se ce le fc hd st dc dn cl cf g mv pi fe fn fh la ma Z b x
    refine ae_lm ?_
    unfold ae_S
    dsimp only
    refine ae_restart (st0 := 100000) (mk := mk) x (fun f hf => ae_zlt 3 f hf) (fun t ht => ae_zlt 3 t ht) (by omega) (fun u' h' => ?_) (fun w => absurd w (by omega))
    rw [ae_zzz] at h'
    obtain ⟨u'_se, u'_ce, u'_le, u'_fc, u'_hd, u'_st, u'_dc, u'_dn, u'_cl, u'_cf, u'_so, u'_bw, u'_wh, u'_be, u'_af, u'_li, u'_mv, u'_pi, u'_fe, u'_fn, u'_fh, u'_ru, u'_he, u'_wr, u'_la, u'_ma⟩ := u'
    exact H _ h'
  refine ae_restart (mk := mk) x hpi (fun t ht => ae_zlt 3 t ht) (by omega) (fun u' h' => ?_) (fun _ se' le' hd' dc' dn' g' pi' fe' fn' fh' la' x' => ?_)
  · obtain ⟨se', ce', le', fc', hd', st', dc', dn', cl', cf', g', mv', pi', fe', fn', fh', la', ma', num', fst', Z', b', rfl, x'⟩ := h'
    exact again _ _ _ _ _ _ _ _ _ _ _ _ _ _ _ _ _ _ _ _ (ae_XD x')
  · exact again _ _ _ _ _ _ _ _ _ _ _ _ _ _ _ _ _ _ _ _ x'
theorem ae_crash2 {post : Int32 → St1 → Prop} {u : St1} {k : Nat} (h : (ae_EN N V cur ru he wr sk mk) u) (hk : k < 64) (H : ∀ u', ae_EN 201 V V (ae_zz ru 3) he wr (fun _ => []) mk u' → post (nI (ae_rn ru 3)) u') : wpX_crashTwice post u (nI k) := by
  obtain ⟨se, ce, le, fc, hd, st, dc, dn, cl, cf, g, mv, pi, fe, fn, fh, la, ma, num, fst, Z, b, rfl, x⟩ := h
  have hru : ∀ t, t < 3 → ru t ≤ 1 := fun t ht => (x.2.2.2.2.2.2.2.2.2.2 t ht).2.2.1
  unfold wpX_crashTwice
  refine ae_run hru (ae_lm ?_)
  unfold ae_S
  dsimp only
  refine pk_le 0 k (fun _ => ?_) (fun z => absurd z (by omega))
  exact pk_le k 40 (fun z => ae_ct30 (mk := mk) (ae_XD x) (fun f hf => ae_zlt 3 f hf) z H) (fun z => ae_ct30 (z0 := 40) (mk := mk) (ae_XD x) (fun f hf => ae_zlt 3 f hf) (by omega) H)
end
end
section
/-! longs bit by bit -/
def ae_bl (w : Int64) (i : Nat) : Bool := w.toBitVec.getLsbD i
theorem ae_blx {a b : Int64} (h : ∀ i, i < 64 → ae_bl a i = ae_bl b i) : a = b := by
  apply Int64.toBitVec_inj.mp
  exact BitVec.eq_of_getLsbD_eq (fun i hi => h i hi)
theorem ae_bla (a b : Int64) (i : Nat) : ae_bl (a &&& b) i = (ae_bl a i && ae_bl b i) := by
  show (a.toBitVec &&& b.toBitVec).getLsbD i = _
  rw [BitVec.getLsbD_and]
  rfl
theorem ae_blo (a b : Int64) (i : Nat) : ae_bl (a ||| b) i = (ae_bl a i || ae_bl b i) := by
  show (a.toBitVec ||| b.toBitVec).getLsbD i = _
  rw [BitVec.getLsbD_or]
  rfl
theorem ae_blm {i : Nat} (h : i < 64) : ae_bl (-1) i = true := by
  have : ∀ i, i < 64 → ae_bl (-1) i = true := by decide +kernel
  exact this i h
theorem ae_bln (a : Int64) {i : Nat} (h : i < 64) : ae_bl (a ^^^ (-1)) i = !ae_bl a i := by
  have e : ae_bl (a ^^^ (-1)) i = (ae_bl a i ^^ ae_bl (-1) i) := by
    show (a.toBitVec ^^^ (-1 : Int64).toBitVec).getLsbD i = _
    rw [BitVec.getLsbD_xor]
    rfl
  rw [e, ae_blm h, Bool.xor_true]
theorem ae_bl0 (i : Nat) : ae_bl 0 i = false := by
  show (0#64).getLsbD i = false
  exact BitVec.getLsbD_zero
theorem ae_bl15 : ∀ c, c < 16 → ∀ i, i < 64 → ae_bl ((15 : Int64) <<< ((4 * nI c).toInt64 &&& 63)) i = decide (i / 4 = c) := by decide +kernel
theorem ae_blv0 : ∀ y, y < 16 → ∀ c, c < 16 → ∀ i, i < 64 → ae_bl ((nI y).toInt64 <<< ((4 * nI c).toInt64 &&& 63)) i = (decide (i / 4 = c) && y.testBit (i % 4)) := by decide +kernel
theorem ae_blv {x c i : Nat} (hc : c < 16) (hi : i < 64) : ae_bl ((nI x &&& 15).toInt64 <<< ((4 * nI c).toInt64 &&& 63)) i = (decide (i / 4 = c) && x.testBit (i % 4)) := by
  have e : nI x &&& 15 = nI (x % 16) := by
    rw [pk_and (nI x) 4 (by decide)]
    have t : (nI x).toBitVec.toNat = x % 2 ^ 32 := rfl
    rw [t, show x % 2 ^ 32 % 2 ^ 4 = x % 16 by omega]
  have m : (x % 16).testBit (i % 4) = x.testBit (i % 4) := by
    have := Nat.testBit_mod_two_pow x 4 (i % 4)
    rw [show (2 : Nat) ^ 4 = 16 by decide] at this
    rw [this, decide_eq_true (by omega), Bool.true_and]
  rw [e, ae_blv0 _ (by omega) c hc i hi, m]
theorem ae_blpk {cur : Nat → Nat} {k : Nat} (hk : k < 64) : ∀ i, i ≤ 16 → ae_bl (ae_pk cur i) k = (decide (k / 4 < i) && (cur (k / 4)).testBit (k % 4))
  | 0, _ => by
    show ae_bl 0 k = _
    rw [ae_bl0, decide_eq_false (by omega), Bool.false_and]
  | i + 1, h => by
    show ae_bl (ae_pk cur i ||| (((nI (cur i) &&& 15).toInt64) <<< ((4 * nI i).toInt64 &&& 63))) k = _
    rw [ae_blo, ae_blpk hk i (by omega), ae_blv (by omega) hk]
    by_cases e : k / 4 = i
    · rw [decide_eq_false (show ¬ k / 4 < i by omega), decide_eq_true e, decide_eq_true (show k / 4 < i + 1 by omega), e, Bool.false_and, Bool.false_or]
    · rw [decide_eq_false e, Bool.false_and, Bool.or_false]
      by_cases f : k / 4 < i
      · rw [decide_eq_true f, decide_eq_true (show k / 4 < i + 1 by omega)]
      · rw [decide_eq_false f, decide_eq_false (show ¬ k / 4 < i + 1 by omega)]
theorem ae_blp {cur : Nat → Nat} {k : Nat} (hk : k < 64) : ae_bl (ae_pk cur 16) k = (cur (k / 4)).testBit (k % 4) := by
  rw [ae_blpk hk 16 (by omega), decide_eq_true (show k / 4 < 16 by omega), Bool.true_and]
def ae_mk (h : Nat) : Nat → Int64
  | 0 => 0
  | i + 1 => if h.testBit i = true then ae_mk h i ||| ((15 : Int64) <<< ((4 * nI i).toInt64 &&& 63)) else ae_mk h i
theorem ae_blmk {h k : Nat} (hk : k < 64) : ∀ i, i ≤ 16 → ae_bl (ae_mk h i) k = (decide (k / 4 < i) && h.testBit (k / 4))
  | 0, _ => by
    show ae_bl 0 k = _
    rw [ae_bl0, decide_eq_false (by omega), Bool.false_and]
  | i + 1, hi => by
    show ae_bl (if h.testBit i = true then ae_mk h i ||| ((15 : Int64) <<< ((4 * nI i).toInt64 &&& 63)) else ae_mk h i) k = _
    have ih := ae_blmk (h := h) hk i (by omega)
    by_cases b : h.testBit i = true
    · rw [if_pos b, ae_blo, ih, ae_bl15 i (by omega) k hk]
      by_cases e : k / 4 = i
      · rw [decide_eq_true e, decide_eq_true (show k / 4 < i + 1 by omega), e, b, Bool.or_true, Bool.true_and]
      · rw [decide_eq_false e, Bool.or_false]
        by_cases f : k / 4 < i
        · rw [decide_eq_true f, decide_eq_true (show k / 4 < i + 1 by omega)]
        · rw [decide_eq_false f, decide_eq_false (show ¬ k / 4 < i + 1 by omega)]
    · rw [if_neg b, ih]
      by_cases e : k / 4 = i
      · rw [decide_eq_false (show ¬ k / 4 < i by omega), decide_eq_true (show k / 4 < i + 1 by omega), e, Bool.false_and, Bool.true_and]
        exact (Bool.eq_false_iff.mpr b).symm
      · by_cases f : k / 4 < i
        · rw [decide_eq_true f, decide_eq_true (show k / 4 < i + 1 by omega)]
        · rw [decide_eq_false f, decide_eq_false (show ¬ k / 4 < i + 1 by omega)]
theorem ae_blk {h k : Nat} (hk : k < 64) : ae_bl (ae_mk h 16) k = h.testBit (k / 4) := by
  rw [ae_blmk hk 16 (by omega), decide_eq_true (show k / 4 < 16 by omega), Bool.true_and]
theorem ae_mask {post : Int64 → Prop} {u : St3} {h : Nat} (hh : h < 65536) (H : post (ae_mk h 16)) : wpL_mask post u (nI h) := by
  unfold wpL_mask
  refine pk_loop (σ := Unit) (fun n i _ => wL_mask_4 post (nI h) n (ae_mk h i) (nI i)) (fun i _ => True) 16 0 () (by omega) trivial (fun n _ _ => pk_le 16 16 (fun _ => H) (fun z => absurd z (by omega))) (fun n i _ hi _ hw => ?_)
  have w := hw () trivial
  have e : ae_mk h (i + 1) = if h.testBit i = true then ae_mk h i ||| ((15 : Int64) <<< ((4 * nI i).toInt64 &&& 63)) else ae_mk h i := rfl
  rw [e] at w
  refine pk_le 16 i (fun z => absurd z (by omega)) (fun _ => ek_if (ae_bit hh hi) (fun z => nm_r (nI_1 i) ?_) (fun z => nm_e (nm_r (nI_1 i) ?_)))
  · rw [if_neg z] at w
    exact w
  · rw [if_pos (Classical.byContradiction z)] at w
    exact w
end
section
/-! the law's steps -/
section
variable {se ce le fc hd st : Nat} {dc dn cl cf mv pi fe fn fh ru he wr la ma cur num fst : Nat → Nat} {g : Nat → ae_E} {N b : Nat} {V Z mk : Nat → Nat} {sk : Nat → List (Nat × Nat)}
theorem ae_Efree {u : St1} {c : Nat} (h : (ae_EN N V cur ru he wr sk mk) u) (hc : c < 16) (hf : ∀ t, t < 3 → ru t ≠ 0 → ¬ (he t).testBit c = true) : V c = cur c := by
  obtain ⟨se, ce, le, fc, hd, st, dc, dn, cl, cf, g, mv, pi, fe, fn, fh, la, ma, num, fst, Z, b, rfl, x⟩ := h
  rw [← ae_Wle x hc]
  refine ae_W3o (fun t ht e he' w => ?_)
  have q := x.2.2.2.2.2.2.2.2.2.2 t ht
  by_cases z : ru t = 0
  · rw [(ae_T1n q z).1] at he'
    exact absurd he' List.not_mem_nil
  · exact hf t ht z (by rw [← w]; exact (q.2.2.2.2.2.2.2.1 e he').2)
theorem ae_Edj {u : St1} (h : (ae_EN N V cur ru he wr sk mk) u) : ae_DJ ru he := by
  obtain ⟨se, ce, le, fc, hd, st, dc, dn, cl, cf, g, mv, pi, fe, fn, fh, la, ma, num, fst, Z, b, rfl, x⟩ := h
  exact x.2.2.2.2.2.2.2.2.2.1
theorem ae_Ehe {u : St1} {t : Nat} (h : (ae_EN N V cur ru he wr sk mk) u) (ht : t < 3) : he t < 65536 := by
  obtain ⟨se, ce, le, fc, hd, st, dc, dn, cl, cf, g, mv, pi, fe, fn, fh, la, ma, num, fst, Z, b, rfl, x⟩ := h
  exact (x.2.2.2.2.2.2.2.2.2.2 t ht).2.2.2.2.2.2.1
theorem ae_Esk {u : St1} {t : Nat} (h : (ae_EN N V cur ru he wr sk mk) u) (ht : t < 3) : ∀ e, e ∈ sk t → (he t).testBit e.1 = true := by
  obtain ⟨se, ce, le, fc, hd, st, dc, dn, cl, cf, g, mv, pi, fe, fn, fh, la, ma, num, fst, Z, b, rfl, x⟩ := h
  exact fun e he' => ((x.2.2.2.2.2.2.2.2.2.2 t ht).2.2.2.2.2.2.2.1 e he').2
theorem ae_hlt {u : St1} {t : Nat} (h : (ae_EN N V cur ru he wr sk mk) u) (ht : t < 3) : ae_hl ru he t < 65536 := by
  have := ae_Ehe h ht
  unfold ae_hl
  split
  · omega
  · exact this
theorem ae_Eab {u : St1} {t c : Nat} (h : (ae_EN N V cur ru he wr sk mk) u) (ht : t < 3) (hr : ru t ≠ 0) (hc : c < 16) : ae_ud cur (sk t) c = if (he t).testBit c = true then V c else cur c := by
  have sk' := ae_Esk h ht
  by_cases z : (he t).testBit c = true
  · rw [if_pos z]
    obtain ⟨se, ce, le, fc, hd, st, dc, dn, cl, cf, g, mv, pi, fe, fn, fh, la, ma, num, fst, Z, b, rfl, x⟩ := h
    rw [← ae_Wle x hc]
    exact (ae_W3t ht (ae_DJsk x.2.2.2.2.2.2.2 (fun u hu hut ru' => x.2.2.2.2.2.2.2.2.2.1 t u ht hu (fun w => hut w.symm) hr ru' _ z))).symm
  · rw [if_neg z]
    exact ae_udo _ _ (fun e he' w => z (by rw [← w]; exact sk' e he'))
theorem ae_Ebk {u : St1} {t c k : Nat} (h : (ae_EN N V cur ru he wr sk mk) u) (ht : t < 3) (hb : ¬ (he t).testBit c = true) : ae_ud cur ((sk t).take k) c = cur c := by
  have sk' := ae_Esk h ht
  exact ae_udo _ _ (fun e he' w => hb (by rw [← w]; exact sk' e (List.mem_of_mem_take he')))
/-- nothing lies above the mark -/
theorem ae_back0 {post : Int32 → St1 → Prop} {u : St1} {t : Nat} (h : (ae_EN N V cur ru he wr sk mk) u) (ht : t < 3) (hr : ru t ≠ 0) (hm : (sk t).length = mk t) (H : ∀ u', (ae_EN 201 V cur ru he wr sk mk) u' → post 0 u') : wpX_back post u (nI t) := by
  refine ae_back h ht (fun z => absurd z hr) (fun _ _ u' h' => ?_)
  rw [show (sk t).length - mk t = 0 by omega] at h' ⊢
  rw [List.take_zero, List.drop_zero, ae_upid] at h'
  exact H u' h'
def ae_B3 (b0 b1 b2 : Int64) (u : Nat) : Int64 := if u = 0 then b0 else if u = 1 then b1 else b2
/-- the bases: of a running transaction's cells they hold the committed values -/
def ae_BS (V ru he : Nat → Nat) (B : Nat → Int64) : Prop := ∀ t, t < 3 → ru t ≠ 0 → ∀ c, c < 16 → (he t).testBit c = true → ∀ j, j < 4 → ae_bl (B t) (4 * c + j) = (V c).testBit j
theorem ae_BSc {B B' : Nat → Int64} (h : ae_BS V ru he B) (e : ∀ u, u < 3 → B' u = B u) : ae_BS V ru he B' := by
  intro t ht hr c hc hb j hj
  rw [e t ht]
  exact h t ht hr c hc hb j hj
def ae_IV (b0 b1 b2 : Int64) (x y : St1) : Prop := ∃ (V cur ru he wr : Nat → Nat) (sk : Nat → List (Nat × Nat)) (mk : Nat → Nat), (ae_EN 201 V cur ru he wr sk mk) x ∧ (ae_EN 201 V cur ru he wr sk mk) y ∧ ae_BS V ru he (ae_B3 b0 b1 b2)
abbrev ae_J : Type := Int64 → Int64 → Int64 → Int32 → Int32 → Int32 → Int32 → Int32 → Int32 → Int32 → (Nat → Int32) → (Nat → Int32) → (Nat → Int32) → (Nat → Int32) → (Nat → Int32) → (Nat → Int32) → (Nat → Int32) → (Nat → Int32) → (Nat → Int32) → (Nat → Int32) → (Nat → Int32) → (Nat → Int32) → (Nat → Int32) → (Nat → Int32) → (Nat → Int32) → (Nat → Int32) → (Nat → Int32) → (Nat → Int32) → (Nat → Int32) → (Nat → Int32) → Int32 → Int32 → Int32 → Int32 → Int32 → Int32 → (Nat → Int32) → (Nat → Int32) → (Nat → Int32) → (Nat → Int32) → (Nat → Int32) → (Nat → Int32) → (Nat → Int32) → (Nat → Int32) → (Nat → Int32) → (Nat → Int32) → (Nat → Int32) → (Nat → Int32) → (Nat → Int32) → (Nat → Int32) → (Nat → Int32) → (Nat → Int32) → (Nat → Int32) → (Nat → Int32) → (Nat → Int32) → (Nat → Int32) → Prop
def ae_HJ (J45 : ae_J) (i : Nat) : Prop := ∀ (b0 b1 b2 : Int64) (u1_se u1_ce u1_le u1_fc u1_hd u1_st : Int32) (u1_dc u1_dn u1_cl u1_cf u1_so u1_bw u1_wh u1_be u1_af u1_li u1_mv u1_pi u1_fe u1_fn u1_fh u1_ru u1_he u1_wr u1_la u1_ma : Nat → Int32) (u2_se u2_ce u2_le u2_fc u2_hd u2_st : Int32) (u2_dc u2_dn u2_cl u2_cf u2_so u2_bw u2_wh u2_be u2_af u2_li u2_mv u2_pi u2_fe u2_fn u2_fh u2_ru u2_he u2_wr u2_la u2_ma : Nat → Int32), ae_IV b0 b1 b2 (u1_se, u1_ce, u1_le, u1_fc, u1_hd, u1_st, u1_dc, u1_dn, u1_cl, u1_cf, u1_so, u1_bw, u1_wh, u1_be, u1_af, u1_li, u1_mv, u1_pi, u1_fe, u1_fn, u1_fh, u1_ru, u1_he, u1_wr, u1_la, u1_ma) (u2_se, u2_ce, u2_le, u2_fc, u2_hd, u2_st, u2_dc, u2_dn, u2_cl, u2_cf, u2_so, u2_bw, u2_wh, u2_be, u2_af, u2_li, u2_mv, u2_pi, u2_fe, u2_fn, u2_fh, u2_ru, u2_he, u2_wr, u2_la, u2_ma) → J45 b0 b1 b2 (nI (i + 2)) u1_se u1_ce u1_le u1_fc u1_hd u1_st u1_dc u1_dn u1_cl u1_cf u1_so u1_bw u1_wh u1_be u1_af u1_li u1_mv u1_pi u1_fe u1_fn u1_fh u1_ru u1_he u1_wr u1_la u1_ma u2_se u2_ce u2_le u2_fc u2_hd u2_st u2_dc u2_dn u2_cl u2_cf u2_so u2_bw u2_wh u2_be u2_af u2_li u2_mv u2_pi u2_fe u2_fn u2_fh u2_ru u2_he u2_wr u2_la u2_ma
theorem ae_same {post : Int32 → St2 → Prop} {u1_se u1_ce u1_le u1_fc u1_hd u1_st : Int32} {u1_dc u1_dn u1_cl u1_cf u1_so u1_bw u1_wh u1_be u1_af u1_li u1_mv u1_pi u1_fe u1_fn u1_fh u1_ru u1_he u1_wr u1_la u1_ma : Nat → Int32} {u2_se u2_ce u2_le u2_fc u2_hd u2_st : Int32} {u2_dc u2_dn u2_cl u2_cf u2_so u2_bw u2_wh u2_be u2_af u2_li u2_mv u2_pi u2_fe u2_fn u2_fh u2_ru u2_he u2_wr u2_la u2_ma : Nat → Int32} (h1 : (ae_EN 201 V cur ru he wr sk mk) (u1_se, u1_ce, u1_le, u1_fc, u1_hd, u1_st, u1_dc, u1_dn, u1_cl, u1_cf, u1_so, u1_bw, u1_wh, u1_be, u1_af, u1_li, u1_mv, u1_pi, u1_fe, u1_fn, u1_fh, u1_ru, u1_he, u1_wr, u1_la, u1_ma)) (h2 : (ae_EN 201 V cur ru he wr sk mk) (u2_se, u2_ce, u2_le, u2_fc, u2_hd, u2_st, u2_dc, u2_dn, u2_cl, u2_cf, u2_so, u2_bw, u2_wh, u2_be, u2_af, u2_li, u2_mv, u2_pi, u2_fe, u2_fn, u2_fh, u2_ru, u2_he, u2_wr, u2_la, u2_ma)) (H : ∀ (u3_se u3_ce u3_le u3_fc u3_hd u3_st : Int32) (u3_dc u3_dn u3_cl u3_cf u3_so u3_bw u3_wh u3_be u3_af u3_li u3_mv u3_pi u3_fe u3_fn u3_fh u3_ru u3_he u3_wr u3_la u3_ma : Nat → Int32) (u4_se u4_ce u4_le u4_fc u4_hd u4_st : Int32) (u4_dc u4_dn u4_cl u4_cf u4_so u4_bw u4_wh u4_be u4_af u4_li u4_mv u4_pi u4_fe u4_fn u4_fh u4_ru u4_he u4_wr u4_la u4_ma : Nat → Int32), (ae_EN 201 V cur ru he wr sk mk) (u3_se, u3_ce, u3_le, u3_fc, u3_hd, u3_st, u3_dc, u3_dn, u3_cl, u3_cf, u3_so, u3_bw, u3_wh, u3_be, u3_af, u3_li, u3_mv, u3_pi, u3_fe, u3_fn, u3_fh, u3_ru, u3_he, u3_wr, u3_la, u3_ma) → (ae_EN 201 V cur ru he wr sk mk) (u4_se, u4_ce, u4_le, u4_fc, u4_hd, u4_st, u4_dc, u4_dn, u4_cl, u4_cf, u4_so, u4_bw, u4_wh, u4_be, u4_af, u4_li, u4_mv, u4_pi, u4_fe, u4_fn, u4_fh, u4_ru, u4_he, u4_wr, u4_la, u4_ma) → post 1 (u3_se, u3_ce, u3_le, u3_fc, u3_hd, u3_st, u3_dc, u3_dn, u3_cl, u3_cf, u3_so, u3_bw, u3_wh, u3_be, u3_af, u3_li, u3_mv, u3_pi, u3_fe, u3_fn, u3_fh, u3_ru, u3_he, u3_wr, u3_la, u3_ma, u4_se, u4_ce, u4_le, u4_fc, u4_hd, u4_st, u4_dc, u4_dn, u4_cl, u4_cf, u4_so, u4_bw, u4_wh, u4_be, u4_af, u4_li, u4_mv, u4_pi, u4_fe, u4_fn, u4_fh, u4_ru, u4_he, u4_wr, u4_la, u4_ma)) : wpL_same post (u1_se, u1_ce, u1_le, u1_fc, u1_hd, u1_st, u1_dc, u1_dn, u1_cl, u1_cf, u1_so, u1_bw, u1_wh, u1_be, u1_af, u1_li, u1_mv, u1_pi, u1_fe, u1_fn, u1_fh, u1_ru, u1_he, u1_wr, u1_la, u1_ma, u2_se, u2_ce, u2_le, u2_fc, u2_hd, u2_st, u2_dc, u2_dn, u2_cl, u2_cf, u2_so, u2_bw, u2_wh, u2_be, u2_af, u2_li, u2_mv, u2_pi, u2_fe, u2_fn, u2_fh, u2_ru, u2_he, u2_wr, u2_la, u2_ma) := by
  unfold wpL_same
  dsimp only
  refine ae_cells h1 (fun u' h1' => ?_)
  obtain ⟨u3_se, u3_ce, u3_le, u3_fc, u3_hd, u3_st, u3_dc, u3_dn, u3_cl, u3_cf, u3_so, u3_bw, u3_wh, u3_be, u3_af, u3_li, u3_mv, u3_pi, u3_fe, u3_fn, u3_fh, u3_ru, u3_he, u3_wr, u3_la, u3_ma⟩ := u'
  refine ae_cells h2 (fun u' h2' => ?_)
  obtain ⟨u4_se, u4_ce, u4_le, u4_fc, u4_hd, u4_st, u4_dc, u4_dn, u4_cl, u4_cf, u4_so, u4_bw, u4_wh, u4_be, u4_af, u4_li, u4_mv, u4_pi, u4_fe, u4_fn, u4_fh, u4_ru, u4_he, u4_wr, u4_la, u4_ma⟩ := u'
  refine br_t rfl ?_
  refine ae_holds (t := 0) h1' (by omega) (ae_holds (t := 0) h2' (by omega) (br_t rfl ?_))
  refine ae_holds (t := 1) h1' (by omega) (ae_holds (t := 1) h2' (by omega) (br_t rfl ?_))
  refine ae_holds (t := 2) h1' (by omega) (ae_holds (t := 2) h2' (by omega) (br_t rfl ?_))
  exact H u3_se u3_ce u3_le u3_fc u3_hd u3_st u3_dc u3_dn u3_cl u3_cf u3_so u3_bw u3_wh u3_be u3_af u3_li u3_mv u3_pi u3_fe u3_fn u3_fh u3_ru u3_he u3_wr u3_la u3_ma u4_se u4_ce u4_le u4_fc u4_hd u4_st u4_dc u4_dn u4_cl u4_cf u4_so u4_bw u4_wh u4_be u4_af u4_li u4_mv u4_pi u4_fe u4_fn u4_fh u4_ru u4_he u4_wr u4_la u4_ma h1' h2'
theorem ae_l788 {post : Int32 → Prop} {L : Nat} {xs : Nat → Int32} {J45 : ae_J} {x4 x6 z0 : Int64} {i kc ks : Nat} {u1_se u1_ce u1_le u1_fc u1_hd u1_st : Int32} {u1_dc u1_dn u1_cl u1_cf u1_so u1_bw u1_wh u1_be u1_af u1_li u1_mv u1_pi u1_fe u1_fn u1_fh u1_ru u1_he u1_wr u1_la u1_ma : Nat → Int32} {u2_se u2_ce u2_le u2_fc u2_hd u2_st : Int32} {u2_dc u2_dn u2_cl u2_cf u2_so u2_bw u2_wh u2_be u2_af u2_li u2_mv u2_pi u2_fe u2_fn u2_fh u2_ru u2_he u2_wr u2_la u2_ma : Nat → Int32} (h1 : (ae_EN 201 V cur ru he wr sk mk) (u1_se, u1_ce, u1_le, u1_fc, u1_hd, u1_st, u1_dc, u1_dn, u1_cl, u1_cf, u1_so, u1_bw, u1_wh, u1_be, u1_af, u1_li, u1_mv, u1_pi, u1_fe, u1_fn, u1_fh, u1_ru, u1_he, u1_wr, u1_la, u1_ma)) (h2 : (ae_EN 201 V cur ru he wr sk mk) (u2_se, u2_ce, u2_le, u2_fc, u2_hd, u2_st, u2_dc, u2_dn, u2_cl, u2_cf, u2_so, u2_bw, u2_wh, u2_be, u2_af, u2_li, u2_mv, u2_pi, u2_fe, u2_fn, u2_fh, u2_ru, u2_he, u2_wr, u2_la, u2_ma)) (hb : ae_BS V ru he (ae_B3 x4 x6 z0)) (HJ : ae_HJ J45 i) :
    wL_law_788 post L xs J45 x4 x6 (nI i) z0 kc ks u1_se u1_ce u1_le u1_fc u1_hd u1_st u1_dc u1_dn u1_cl u1_cf u1_so u1_bw u1_wh u1_be u1_af u1_li u1_mv u1_pi u1_fe u1_fn u1_fh u1_ru u1_he u1_wr u1_la u1_ma u2_se u2_ce u2_le u2_fc u2_hd u2_st u2_dc u2_dn u2_cl u2_cf u2_so u2_bw u2_wh u2_be u2_af u2_li u2_mv u2_pi u2_fe u2_fn u2_fh u2_ru u2_he u2_wr u2_la u2_ma := by
  unfold wL_law_788
  refine ae_same h1 h2 (fun u3_se u3_ce u3_le u3_fc u3_hd u3_st u3_dc u3_dn u3_cl u3_cf u3_so u3_bw u3_wh u3_be u3_af u3_li u3_mv u3_pi u3_fe u3_fn u3_fh u3_ru u3_he u3_wr u3_la u3_ma u4_se u4_ce u4_le u4_fc u4_hd u4_st u4_dc u4_dn u4_cl u4_cf u4_so u4_bw u4_wh u4_be u4_af u4_li u4_mv u4_pi u4_fe u4_fn u4_fh u4_ru u4_he u4_wr u4_la u4_ma h3 h4 => ?_)
  refine br_f (by decide) (nm_r (nI_add i 2) ?_)
  exact HJ x4 x6 z0 u3_se u3_ce u3_le u3_fc u3_hd u3_st u3_dc u3_dn u3_cl u3_cf u3_so u3_bw u3_wh u3_be u3_af u3_li u3_mv u3_pi u3_fe u3_fn u3_fh u3_ru u3_he u3_wr u3_la u3_ma u4_se u4_ce u4_le u4_fc u4_hd u4_st u4_dc u4_dn u4_cl u4_cf u4_so u4_bw u4_wh u4_be u4_af u4_li u4_mv u4_pi u4_fe u4_fn u4_fh u4_ru u4_he u4_wr u4_la u4_ma ⟨V, cur, ru, he, wr, sk, mk, h3, h4, hb⟩
theorem ae_l746 {post : Int32 → Prop} {L : Nat} {xs : Nat → Int32} {J45 : ae_J} {x4 x6 x8 z : Int64} {i t kc ks : Nat} {u1_se u1_ce u1_le u1_fc u1_hd u1_st : Int32} {u1_dc u1_dn u1_cl u1_cf u1_so u1_bw u1_wh u1_be u1_af u1_li u1_mv u1_pi u1_fe u1_fn u1_fh u1_ru u1_he u1_wr u1_la u1_ma : Nat → Int32} {u2_se u2_ce u2_le u2_fc u2_hd u2_st : Int32} {u2_dc u2_dn u2_cl u2_cf u2_so u2_bw u2_wh u2_be u2_af u2_li u2_mv u2_pi u2_fe u2_fn u2_fh u2_ru u2_he u2_wr u2_la u2_ma : Nat → Int32} (h1 : (ae_EN 201 V cur ru he wr sk mk) (u1_se, u1_ce, u1_le, u1_fc, u1_hd, u1_st, u1_dc, u1_dn, u1_cl, u1_cf, u1_so, u1_bw, u1_wh, u1_be, u1_af, u1_li, u1_mv, u1_pi, u1_fe, u1_fn, u1_fh, u1_ru, u1_he, u1_wr, u1_la, u1_ma)) (h2 : (ae_EN 201 V cur ru he wr sk mk) (u2_se, u2_ce, u2_le, u2_fc, u2_hd, u2_st, u2_dc, u2_dn, u2_cl, u2_cf, u2_so, u2_bw, u2_wh, u2_be, u2_af, u2_li, u2_mv, u2_pi, u2_fe, u2_fn, u2_fh, u2_ru, u2_he, u2_wr, u2_la, u2_ma)) (ht : t < 3) (hb : ae_BS V ru he (ae_up (ae_B3 x4 x6 x8) t z)) (HJ : ae_HJ J45 i) :
    wL_law_746 post L xs J45 x4 x6 x8 (nI i) (nI t) z kc ks u1_se u1_ce u1_le u1_fc u1_hd u1_st u1_dc u1_dn u1_cl u1_cf u1_so u1_bw u1_wh u1_be u1_af u1_li u1_mv u1_pi u1_fe u1_fn u1_fh u1_ru u1_he u1_wr u1_la u1_ma u2_se u2_ce u2_le u2_fc u2_hd u2_st u2_dc u2_dn u2_cl u2_cf u2_so u2_bw u2_wh u2_be u2_af u2_li u2_mv u2_pi u2_fe u2_fn u2_fh u2_ru u2_he u2_wr u2_la u2_ma := by
  have t3 : t = 0 ∨ t = 1 ∨ t = 2 := by omega
  have u3 : ∀ u, u < 3 → u = 0 ∨ u = 1 ∨ u = 2 := by omega
  unfold wL_law_746 wL_law_758 wL_law_773
  rcases t3 with rfl | rfl | rfl
  · refine br_t rfl (br_f (by decide) (br_f (by decide) (ae_l788 h1 h2 (ae_BSc hb (fun u hu => ?_)) HJ)))
    rcases u3 u hu with rfl | rfl | rfl
    · rfl
    · rfl
    · rfl
  · refine br_f (by decide) (br_t rfl (br_f (by decide) (ae_l788 h1 h2 (ae_BSc hb (fun u hu => ?_)) HJ)))
    rcases u3 u hu with rfl | rfl | rfl
    · rfl
    · rfl
    · rfl
  · refine br_f (by decide) (br_f (by decide) (br_t rfl (ae_l788 h1 h2 (ae_BSc hb (fun u hu => ?_)) HJ)))
    rcases u3 u hu with rfl | rfl | rfl
    · rfl
    · rfl
    · rfl
theorem ae_l746s {post : Int32 → Prop} {L : Nat} {xs : Nat → Int32} {J45 : ae_J} {x4 x6 x8 : Int64} {i t kc ks : Nat} {u1_se u1_ce u1_le u1_fc u1_hd u1_st : Int32} {u1_dc u1_dn u1_cl u1_cf u1_so u1_bw u1_wh u1_be u1_af u1_li u1_mv u1_pi u1_fe u1_fn u1_fh u1_ru u1_he u1_wr u1_la u1_ma : Nat → Int32} {u2_se u2_ce u2_le u2_fc u2_hd u2_st : Int32} {u2_dc u2_dn u2_cl u2_cf u2_so u2_bw u2_wh u2_be u2_af u2_li u2_mv u2_pi u2_fe u2_fn u2_fh u2_ru u2_he u2_wr u2_la u2_ma : Nat → Int32} (h1 : (ae_EN 201 V cur ru he wr sk mk) (u1_se, u1_ce, u1_le, u1_fc, u1_hd, u1_st, u1_dc, u1_dn, u1_cl, u1_cf, u1_so, u1_bw, u1_wh, u1_be, u1_af, u1_li, u1_mv, u1_pi, u1_fe, u1_fn, u1_fh, u1_ru, u1_he, u1_wr, u1_la, u1_ma)) (h2 : (ae_EN 201 V cur ru he wr sk mk) (u2_se, u2_ce, u2_le, u2_fc, u2_hd, u2_st, u2_dc, u2_dn, u2_cl, u2_cf, u2_so, u2_bw, u2_wh, u2_be, u2_af, u2_li, u2_mv, u2_pi, u2_fe, u2_fn, u2_fh, u2_ru, u2_he, u2_wr, u2_la, u2_ma)) (ht : t < 3) (hb : ae_BS V ru he (ae_B3 x4 x6 x8)) (HJ : ae_HJ J45 i) :
    wL_law_746 post L xs J45 x4 x6 x8 (nI i) (nI t) (ae_B3 x4 x6 x8 t) kc ks u1_se u1_ce u1_le u1_fc u1_hd u1_st u1_dc u1_dn u1_cl u1_cf u1_so u1_bw u1_wh u1_be u1_af u1_li u1_mv u1_pi u1_fe u1_fn u1_fh u1_ru u1_he u1_wr u1_la u1_ma u2_se u2_ce u2_le u2_fc u2_hd u2_st u2_dc u2_dn u2_cl u2_cf u2_so u2_bw u2_wh u2_be u2_af u2_li u2_mv u2_pi u2_fe u2_fn u2_fh u2_ru u2_he u2_wr u2_la u2_ma :=
  ae_l746 h1 h2 ht (by rw [ae_upid]; exact hb) HJ
theorem ae_op0 {post : Int32 → Prop} {L : Nat} {xs : Nat → Int32} {J45 : ae_J} {x4 x6 x8 : Int64} {i t kc ks op v : Nat} {u1_se u1_ce u1_le u1_fc u1_hd u1_st : Int32} {u1_dc u1_dn u1_cl u1_cf u1_so u1_bw u1_wh u1_be u1_af u1_li u1_mv u1_pi u1_fe u1_fn u1_fh u1_ru u1_he u1_wr u1_la u1_ma : Nat → Int32} {u2_se u2_ce u2_le u2_fc u2_hd u2_st : Int32} {u2_dc u2_dn u2_cl u2_cf u2_so u2_bw u2_wh u2_be u2_af u2_li u2_mv u2_pi u2_fe u2_fn u2_fh u2_ru u2_he u2_wr u2_la u2_ma : Nat → Int32} (h1 : (ae_EN 201 V cur ru he wr sk mk) (u1_se, u1_ce, u1_le, u1_fc, u1_hd, u1_st, u1_dc, u1_dn, u1_cl, u1_cf, u1_so, u1_bw, u1_wh, u1_be, u1_af, u1_li, u1_mv, u1_pi, u1_fe, u1_fn, u1_fh, u1_ru, u1_he, u1_wr, u1_la, u1_ma)) (h2 : (ae_EN 201 V cur ru he wr sk mk) (u2_se, u2_ce, u2_le, u2_fc, u2_hd, u2_st, u2_dc, u2_dn, u2_cl, u2_cf, u2_so, u2_bw, u2_wh, u2_be, u2_af, u2_li, u2_mv, u2_pi, u2_fe, u2_fn, u2_fh, u2_ru, u2_he, u2_wr, u2_la, u2_ma)) (ht : t < 3) (hb : ae_BS V ru he (ae_B3 x4 x6 x8)) (HJ : ae_HJ J45 i) (ho : op ≤ 2) :
    wL_law_153 post L xs J45 x4 x6 x8 (nI i) (nI op) (nI t) (nI v) (nI (v % 16)) (ae_pk cur 16) (nI (ae_hl ru he t)) (nI (ae_hl ru he 0)) (nI (ae_hl ru he 1)) (nI (ae_hl ru he 2)) (ae_B3 x4 x6 x8 t) kc ks u1_se u1_ce u1_le u1_fc u1_hd u1_st u1_dc u1_dn u1_cl u1_cf u1_so u1_bw u1_wh u1_be u1_af u1_li u1_mv u1_pi u1_fe u1_fn u1_fh u1_ru u1_he u1_wr u1_la u1_ma u2_se u2_ce u2_le u2_fc u2_hd u2_st u2_dc u2_dn u2_cl u2_cf u2_so u2_bw u2_wh u2_be u2_af u2_li u2_mv u2_pi u2_fe u2_fn u2_fh u2_ru u2_he u2_wr u2_la u2_ma := by
  unfold wL_law_153
  refine pk_lt 2 op (fun z => absurd z (by omega)) (fun _ => ?_)
  refine ae_begin h1 ht (fun z => ?_) (fun z u1 k1 => ?_)
  · refine ae_begin h2 ht (fun _ => ?_) (fun y => absurd y z)
    exact br_t rfl (ae_l746s h1 h2 ht hb HJ)
  · obtain ⟨u3_se, u3_ce, u3_le, u3_fc, u3_hd, u3_st, u3_dc, u3_dn, u3_cl, u3_cf, u3_so, u3_bw, u3_wh, u3_be, u3_af, u3_li, u3_mv, u3_pi, u3_fe, u3_fn, u3_fh, u3_ru, u3_he, u3_wr, u3_la, u3_ma⟩ := u1
    refine ae_begin h2 ht (fun y => absurd z y) (fun _ u2 k2 => ?_)
    obtain ⟨u4_se, u4_ce, u4_le, u4_fc, u4_hd, u4_st, u4_dc, u4_dn, u4_cl, u4_cf, u4_so, u4_bw, u4_wh, u4_be, u4_af, u4_li, u4_mv, u4_pi, u4_fe, u4_fn, u4_fh, u4_ru, u4_he, u4_wr, u4_la, u4_ma⟩ := u2
    refine br_t rfl (ae_l746s k1 k2 ht (fun t' ht' hr' c hc hbit j hj => ?_) HJ)
    by_cases w : t' = t
    · rw [w, ae_us, Nat.zero_testBit] at hbit
      exact absurd hbit (by decide)
    · rw [ae_un w] at hr' hbit
      exact hb t' ht' hr' c hc hbit j hj
theorem ae_op9 {post : Int32 → Prop} {L : Nat} {xs : Nat → Int32} {J45 : ae_J} {x4 x6 x8 : Int64} {i t kc ks op v : Nat} {u1_se u1_ce u1_le u1_fc u1_hd u1_st : Int32} {u1_dc u1_dn u1_cl u1_cf u1_so u1_bw u1_wh u1_be u1_af u1_li u1_mv u1_pi u1_fe u1_fn u1_fh u1_ru u1_he u1_wr u1_la u1_ma : Nat → Int32} {u2_se u2_ce u2_le u2_fc u2_hd u2_st : Int32} {u2_dc u2_dn u2_cl u2_cf u2_so u2_bw u2_wh u2_be u2_af u2_li u2_mv u2_pi u2_fe u2_fn u2_fh u2_ru u2_he u2_wr u2_la u2_ma : Nat → Int32} (h1 : (ae_EN 201 V cur ru he wr sk mk) (u1_se, u1_ce, u1_le, u1_fc, u1_hd, u1_st, u1_dc, u1_dn, u1_cl, u1_cf, u1_so, u1_bw, u1_wh, u1_be, u1_af, u1_li, u1_mv, u1_pi, u1_fe, u1_fn, u1_fh, u1_ru, u1_he, u1_wr, u1_la, u1_ma)) (h2 : (ae_EN 201 V cur ru he wr sk mk) (u2_se, u2_ce, u2_le, u2_fc, u2_hd, u2_st, u2_dc, u2_dn, u2_cl, u2_cf, u2_so, u2_bw, u2_wh, u2_be, u2_af, u2_li, u2_mv, u2_pi, u2_fe, u2_fn, u2_fh, u2_ru, u2_he, u2_wr, u2_la, u2_ma)) (ht : t < 3) (hb : ae_BS V ru he (ae_B3 x4 x6 x8)) (HJ : ae_HJ J45 i) (ho : op = 9) :
    wL_law_153 post L xs J45 x4 x6 x8 (nI i) (nI op) (nI t) (nI v) (nI (v % 16)) (ae_pk cur 16) (nI (ae_hl ru he t)) (nI (ae_hl ru he 0)) (nI (ae_hl ru he 1)) (nI (ae_hl ru he 2)) (ae_B3 x4 x6 x8 t) kc ks u1_se u1_ce u1_le u1_fc u1_hd u1_st u1_dc u1_dn u1_cl u1_cf u1_so u1_bw u1_wh u1_be u1_af u1_li u1_mv u1_pi u1_fe u1_fn u1_fh u1_ru u1_he u1_wr u1_la u1_ma u2_se u2_ce u2_le u2_fc u2_hd u2_st u2_dc u2_dn u2_cl u2_cf u2_so u2_bw u2_wh u2_be u2_af u2_li u2_mv u2_pi u2_fe u2_fn u2_fh u2_ru u2_he u2_wr u2_la u2_ma := by
  unfold wL_law_153
  refine pk_lt 2 op (fun _ => pk_lt 8 op (fun _ => pk_eq op 9 (fun _ => ?_) (fun z => absurd ho z)) (fun z => absurd z (by omega))) (fun z => absurd z (by omega))
  refine ae_commit h1 ht (fun z => ?_) (fun z u1 k1 => ?_)
  · refine ae_commit h2 ht (fun _ => ?_) (fun y => absurd z y)
    refine br_t rfl (ae_cells h1 (fun u3 k3 => ?_))
    obtain ⟨u5_se, u5_ce, u5_le, u5_fc, u5_hd, u5_st, u5_dc, u5_dn, u5_cl, u5_cf, u5_so, u5_bw, u5_wh, u5_be, u5_af, u5_li, u5_mv, u5_pi, u5_fe, u5_fn, u5_fh, u5_ru, u5_he, u5_wr, u5_la, u5_ma⟩ := u3
    exact br_t rfl (ae_l746s k3 h2 ht hb HJ)
  · obtain ⟨u3_se, u3_ce, u3_le, u3_fc, u3_hd, u3_st, u3_dc, u3_dn, u3_cl, u3_cf, u3_so, u3_bw, u3_wh, u3_be, u3_af, u3_li, u3_mv, u3_pi, u3_fe, u3_fn, u3_fh, u3_ru, u3_he, u3_wr, u3_la, u3_ma⟩ := u1
    refine ae_commit h2 ht (fun y => absurd y z) (fun _ u2 k2 => ?_)
    obtain ⟨u4_se, u4_ce, u4_le, u4_fc, u4_hd, u4_st, u4_dc, u4_dn, u4_cl, u4_cf, u4_so, u4_bw, u4_wh, u4_be, u4_af, u4_li, u4_mv, u4_pi, u4_fe, u4_fn, u4_fh, u4_ru, u4_he, u4_wr, u4_la, u4_ma⟩ := u2
    refine br_t rfl (ae_cells k1 (fun u3 k3 => ?_))
    obtain ⟨u5_se, u5_ce, u5_le, u5_fc, u5_hd, u5_st, u5_dc, u5_dn, u5_cl, u5_cf, u5_so, u5_bw, u5_wh, u5_be, u5_af, u5_li, u5_mv, u5_pi, u5_fe, u5_fn, u5_fh, u5_ru, u5_he, u5_wr, u5_la, u5_ma⟩ := u3
    refine br_t rfl (ae_l746s k3 k2 ht (fun t' ht' hr' c hc hbit j hj => ?_) HJ)
    by_cases w : t' = t
    · rw [w, ae_us] at hr'
      exact absurd rfl hr'
    · rw [ae_un w] at hr'
      have d := ae_Edj h1 t' t ht' ht w hr' z c hbit
      rw [hb t' ht' hr' c hc hbit j hj]
      unfold ae_cm
      rw [if_neg d]
theorem ae_op10 {post : Int32 → Prop} {L : Nat} {xs : Nat → Int32} {J45 : ae_J} {x4 x6 x8 : Int64} {i t kc ks op v : Nat} {u1_se u1_ce u1_le u1_fc u1_hd u1_st : Int32} {u1_dc u1_dn u1_cl u1_cf u1_so u1_bw u1_wh u1_be u1_af u1_li u1_mv u1_pi u1_fe u1_fn u1_fh u1_ru u1_he u1_wr u1_la u1_ma : Nat → Int32} {u2_se u2_ce u2_le u2_fc u2_hd u2_st : Int32} {u2_dc u2_dn u2_cl u2_cf u2_so u2_bw u2_wh u2_be u2_af u2_li u2_mv u2_pi u2_fe u2_fn u2_fh u2_ru u2_he u2_wr u2_la u2_ma : Nat → Int32} (h1 : (ae_EN 201 V cur ru he wr sk mk) (u1_se, u1_ce, u1_le, u1_fc, u1_hd, u1_st, u1_dc, u1_dn, u1_cl, u1_cf, u1_so, u1_bw, u1_wh, u1_be, u1_af, u1_li, u1_mv, u1_pi, u1_fe, u1_fn, u1_fh, u1_ru, u1_he, u1_wr, u1_la, u1_ma)) (h2 : (ae_EN 201 V cur ru he wr sk mk) (u2_se, u2_ce, u2_le, u2_fc, u2_hd, u2_st, u2_dc, u2_dn, u2_cl, u2_cf, u2_so, u2_bw, u2_wh, u2_be, u2_af, u2_li, u2_mv, u2_pi, u2_fe, u2_fn, u2_fh, u2_ru, u2_he, u2_wr, u2_la, u2_ma)) (ht : t < 3) (hb : ae_BS V ru he (ae_B3 x4 x6 x8)) (HJ : ae_HJ J45 i) (ho : op = 10) :
    wL_law_153 post L xs J45 x4 x6 x8 (nI i) (nI op) (nI t) (nI v) (nI (v % 16)) (ae_pk cur 16) (nI (ae_hl ru he t)) (nI (ae_hl ru he 0)) (nI (ae_hl ru he 1)) (nI (ae_hl ru he 2)) (ae_B3 x4 x6 x8 t) kc ks u1_se u1_ce u1_le u1_fc u1_hd u1_st u1_dc u1_dn u1_cl u1_cf u1_so u1_bw u1_wh u1_be u1_af u1_li u1_mv u1_pi u1_fe u1_fn u1_fh u1_ru u1_he u1_wr u1_la u1_ma u2_se u2_ce u2_le u2_fc u2_hd u2_st u2_dc u2_dn u2_cl u2_cf u2_so u2_bw u2_wh u2_be u2_af u2_li u2_mv u2_pi u2_fe u2_fn u2_fh u2_ru u2_he u2_wr u2_la u2_ma := by
  unfold wL_law_153
  refine pk_lt 2 op (fun _ => pk_lt 8 op (fun _ => pk_eq op 9 (fun z => absurd z (by omega)) (fun _ => pk_eq op 10 (fun _ => ?_) (fun z => absurd ho z))) (fun z => absurd z (by omega))) (fun z => absurd z (by omega))
  refine ae_abort h1 ht (fun z => ?_) (fun z u1 k1 => ?_)
  · refine ae_mask (ae_hlt h1 ht) ?_
    refine ae_abort h2 ht (fun _ => ?_) (fun y => absurd z y)
    refine br_t rfl (ae_cells h1 (fun u3 k3 => ?_))
    obtain ⟨u5_se, u5_ce, u5_le, u5_fc, u5_hd, u5_st, u5_dc, u5_dn, u5_cl, u5_cf, u5_so, u5_bw, u5_wh, u5_be, u5_af, u5_li, u5_mv, u5_pi, u5_fe, u5_fn, u5_fh, u5_ru, u5_he, u5_wr, u5_la, u5_ma⟩ := u3
    have hz : ae_hl ru he t = 0 := by
      unfold ae_hl
      rw [if_pos z]
    refine br_t (ae_blx (fun k hk => ?_)) (ae_holds k3 ht ?_)
    · rw [ae_blo, ae_bla, ae_bla, ae_bln _ hk, ae_blk hk, hz, Nat.zero_testBit, Bool.not_false, Bool.and_true, Bool.and_false, Bool.or_false]
    · rw [hz]
      exact br_t rfl (ae_l746s k3 h2 ht hb HJ)
  · obtain ⟨u3_se, u3_ce, u3_le, u3_fc, u3_hd, u3_st, u3_dc, u3_dn, u3_cl, u3_cf, u3_so, u3_bw, u3_wh, u3_be, u3_af, u3_li, u3_mv, u3_pi, u3_fe, u3_fn, u3_fh, u3_ru, u3_he, u3_wr, u3_la, u3_ma⟩ := u1
    refine ae_mask (ae_hlt h1 ht) ?_
    refine ae_abort h2 ht (fun y => absurd y z) (fun _ u2 k2 => ?_)
    obtain ⟨u4_se, u4_ce, u4_le, u4_fc, u4_hd, u4_st, u4_dc, u4_dn, u4_cl, u4_cf, u4_so, u4_bw, u4_wh, u4_be, u4_af, u4_li, u4_mv, u4_pi, u4_fe, u4_fn, u4_fh, u4_ru, u4_he, u4_wr, u4_la, u4_ma⟩ := u2
    refine br_t rfl (ae_cells k1 (fun u3 k3 => ?_))
    obtain ⟨u5_se, u5_ce, u5_le, u5_fc, u5_hd, u5_st, u5_dc, u5_dn, u5_cl, u5_cf, u5_so, u5_bw, u5_wh, u5_be, u5_af, u5_li, u5_mv, u5_pi, u5_fe, u5_fn, u5_fh, u5_ru, u5_he, u5_wr, u5_la, u5_ma⟩ := u3
    have hz : ae_hl ru he t = he t := by
      unfold ae_hl
      rw [if_neg z]
    have hz2 : ae_hl (ae_up ru t 0) he t = 0 := by
      unfold ae_hl
      rw [ae_us, if_pos rfl]
    refine br_t (ae_blx (fun k hk => ?_)) (ae_holds k3 ht ?_)
    · have hk4 : k / 4 < 16 := by omega
      rw [ae_blo, ae_bla, ae_bla, ae_bln _ hk, ae_blk hk, hz, ae_blp hk, ae_blp hk, ae_Eab h1 ht z hk4]
      by_cases y : (he t).testBit (k / 4) = true
      · have q := hb t ht z (k / 4) hk4 y (k % 4) (by omega)
        rw [ae_c4] at q
        rw [if_pos y, y, Bool.not_true, Bool.and_false, Bool.false_or, Bool.and_true, q]
      · rw [if_neg y, Bool.eq_false_iff.mpr y, Bool.not_false, Bool.and_true, Bool.and_false, Bool.or_false]
    · rw [hz2]
      refine br_t rfl (ae_l746s k3 k2 ht (fun t' ht' hr' c hc hbit j hj => ?_) HJ)
      by_cases w : t' = t
      · rw [w, ae_us] at hr'
        exact absurd rfl hr'
      · rw [ae_un w] at hr'
        exact hb t' ht' hr' c hc hbit j hj
theorem ae_op11 {post : Int32 → Prop} {L : Nat} {xs : Nat → Int32} {J45 : ae_J} {x4 x6 x8 : Int64} {i t kc ks op v : Nat} {u1_se u1_ce u1_le u1_fc u1_hd u1_st : Int32} {u1_dc u1_dn u1_cl u1_cf u1_so u1_bw u1_wh u1_be u1_af u1_li u1_mv u1_pi u1_fe u1_fn u1_fh u1_ru u1_he u1_wr u1_la u1_ma : Nat → Int32} {u2_se u2_ce u2_le u2_fc u2_hd u2_st : Int32} {u2_dc u2_dn u2_cl u2_cf u2_so u2_bw u2_wh u2_be u2_af u2_li u2_mv u2_pi u2_fe u2_fn u2_fh u2_ru u2_he u2_wr u2_la u2_ma : Nat → Int32} (h1 : (ae_EN 201 V cur ru he wr sk mk) (u1_se, u1_ce, u1_le, u1_fc, u1_hd, u1_st, u1_dc, u1_dn, u1_cl, u1_cf, u1_so, u1_bw, u1_wh, u1_be, u1_af, u1_li, u1_mv, u1_pi, u1_fe, u1_fn, u1_fh, u1_ru, u1_he, u1_wr, u1_la, u1_ma)) (h2 : (ae_EN 201 V cur ru he wr sk mk) (u2_se, u2_ce, u2_le, u2_fc, u2_hd, u2_st, u2_dc, u2_dn, u2_cl, u2_cf, u2_so, u2_bw, u2_wh, u2_be, u2_af, u2_li, u2_mv, u2_pi, u2_fe, u2_fn, u2_fh, u2_ru, u2_he, u2_wr, u2_la, u2_ma)) (ht : t < 3) (hb : ae_BS V ru he (ae_B3 x4 x6 x8)) (HJ : ae_HJ J45 i) (ho : op = 11) :
    wL_law_153 post L xs J45 x4 x6 x8 (nI i) (nI op) (nI t) (nI v) (nI (v % 16)) (ae_pk cur 16) (nI (ae_hl ru he t)) (nI (ae_hl ru he 0)) (nI (ae_hl ru he 1)) (nI (ae_hl ru he 2)) (ae_B3 x4 x6 x8 t) kc ks u1_se u1_ce u1_le u1_fc u1_hd u1_st u1_dc u1_dn u1_cl u1_cf u1_so u1_bw u1_wh u1_be u1_af u1_li u1_mv u1_pi u1_fe u1_fn u1_fh u1_ru u1_he u1_wr u1_la u1_ma u2_se u2_ce u2_le u2_fc u2_hd u2_st u2_dc u2_dn u2_cl u2_cf u2_so u2_bw u2_wh u2_be u2_af u2_li u2_mv u2_pi u2_fe u2_fn u2_fh u2_ru u2_he u2_wr u2_la u2_ma := by
  unfold wL_law_153
  refine pk_lt 2 op (fun _ => pk_lt 8 op (fun _ => pk_eq op 9 (fun z => absurd z (by omega)) (fun _ => pk_eq op 10 (fun z => absurd z (by omega)) (fun _ => pk_eq op 11 (fun _ => ?_) (fun z => absurd ho z)))) (fun z => absurd z (by omega))) (fun z => absurd z (by omega))
  refine ae_mark h1 ht (fun z => ?_) (fun z u1 k1 => ?_)
  · refine ae_mark h2 ht (fun _ => ?_) (fun y => absurd z y)
    exact br_t rfl (ae_l746s h1 h2 ht hb HJ)
  · obtain ⟨u3_se, u3_ce, u3_le, u3_fc, u3_hd, u3_st, u3_dc, u3_dn, u3_cl, u3_cf, u3_so, u3_bw, u3_wh, u3_be, u3_af, u3_li, u3_mv, u3_pi, u3_fe, u3_fn, u3_fh, u3_ru, u3_he, u3_wr, u3_la, u3_ma⟩ := u1
    refine ae_mark h2 ht (fun y => absurd y z) (fun _ u2 k2 => ?_)
    obtain ⟨u4_se, u4_ce, u4_le, u4_fc, u4_hd, u4_st, u4_dc, u4_dn, u4_cl, u4_cf, u4_so, u4_bw, u4_wh, u4_be, u4_af, u4_li, u4_mv, u4_pi, u4_fe, u4_fn, u4_fh, u4_ru, u4_he, u4_wr, u4_la, u4_ma⟩ := u2
    exact br_t rfl (ae_l746s k1 k2 ht hb HJ)
theorem ae_op12 {post : Int32 → Prop} {L : Nat} {xs : Nat → Int32} {J45 : ae_J} {x4 x6 x8 : Int64} {i t kc ks op v : Nat} {u1_se u1_ce u1_le u1_fc u1_hd u1_st : Int32} {u1_dc u1_dn u1_cl u1_cf u1_so u1_bw u1_wh u1_be u1_af u1_li u1_mv u1_pi u1_fe u1_fn u1_fh u1_ru u1_he u1_wr u1_la u1_ma : Nat → Int32} {u2_se u2_ce u2_le u2_fc u2_hd u2_st : Int32} {u2_dc u2_dn u2_cl u2_cf u2_so u2_bw u2_wh u2_be u2_af u2_li u2_mv u2_pi u2_fe u2_fn u2_fh u2_ru u2_he u2_wr u2_la u2_ma : Nat → Int32} (h1 : (ae_EN 201 V cur ru he wr sk mk) (u1_se, u1_ce, u1_le, u1_fc, u1_hd, u1_st, u1_dc, u1_dn, u1_cl, u1_cf, u1_so, u1_bw, u1_wh, u1_be, u1_af, u1_li, u1_mv, u1_pi, u1_fe, u1_fn, u1_fh, u1_ru, u1_he, u1_wr, u1_la, u1_ma)) (h2 : (ae_EN 201 V cur ru he wr sk mk) (u2_se, u2_ce, u2_le, u2_fc, u2_hd, u2_st, u2_dc, u2_dn, u2_cl, u2_cf, u2_so, u2_bw, u2_wh, u2_be, u2_af, u2_li, u2_mv, u2_pi, u2_fe, u2_fn, u2_fh, u2_ru, u2_he, u2_wr, u2_la, u2_ma)) (ht : t < 3) (hb : ae_BS V ru he (ae_B3 x4 x6 x8)) (HJ : ae_HJ J45 i) (ho : op = 12) :
    wL_law_153 post L xs J45 x4 x6 x8 (nI i) (nI op) (nI t) (nI v) (nI (v % 16)) (ae_pk cur 16) (nI (ae_hl ru he t)) (nI (ae_hl ru he 0)) (nI (ae_hl ru he 1)) (nI (ae_hl ru he 2)) (ae_B3 x4 x6 x8 t) kc ks u1_se u1_ce u1_le u1_fc u1_hd u1_st u1_dc u1_dn u1_cl u1_cf u1_so u1_bw u1_wh u1_be u1_af u1_li u1_mv u1_pi u1_fe u1_fn u1_fh u1_ru u1_he u1_wr u1_la u1_ma u2_se u2_ce u2_le u2_fc u2_hd u2_st u2_dc u2_dn u2_cl u2_cf u2_so u2_bw u2_wh u2_be u2_af u2_li u2_mv u2_pi u2_fe u2_fn u2_fh u2_ru u2_he u2_wr u2_la u2_ma := by
  unfold wL_law_153 wL_law_545
  refine pk_lt 2 op (fun _ => pk_lt 8 op (fun _ => pk_eq op 9 (fun z => absurd z (by omega)) (fun _ => pk_eq op 10 (fun z => absurd z (by omega)) (fun _ => pk_eq op 11 (fun z => absurd z (by omega)) (fun _ => pk_eq op 12 (fun _ => ?_) (fun z => absurd ho z))))) (fun z => absurd z (by omega))) (fun z => absurd z (by omega))
  have hl := ae_hlt h1 ht
  refine ae_back h1 ht (fun z => ?_) (fun z hm u1 k1 => ?_)
  · refine ae_back h2 ht (fun _ => ?_) (fun y => absurd z y)
    refine br_t rfl (ae_holds h1 ht (br_t rfl (ae_cells h1 (fun u3 k3 => ?_))))
    obtain ⟨u5_se, u5_ce, u5_le, u5_fc, u5_hd, u5_st, u5_dc, u5_dn, u5_cl, u5_cf, u5_so, u5_bw, u5_wh, u5_be, u5_af, u5_li, u5_mv, u5_pi, u5_fe, u5_fn, u5_fh, u5_ru, u5_he, u5_wr, u5_la, u5_ma⟩ := u3
    refine ae_mask hl (ae_mask hl (br_t rfl ?_))
    refine ae_back k3 ht (fun _ => ?_) (fun y => absurd z y)
    refine ae_back h2 ht (fun _ => ?_) (fun y => absurd z y)
    exact br_t rfl (br_t (by decide) (ae_l746s k3 h2 ht hb HJ))
  · obtain ⟨u3_se, u3_ce, u3_le, u3_fc, u3_hd, u3_st, u3_dc, u3_dn, u3_cl, u3_cf, u3_so, u3_bw, u3_wh, u3_be, u3_af, u3_li, u3_mv, u3_pi, u3_fe, u3_fn, u3_fh, u3_ru, u3_he, u3_wr, u3_la, u3_ma⟩ := u1
    refine ae_back h2 ht (fun y => absurd y z) (fun _ _ u2 k2 => ?_)
    obtain ⟨u4_se, u4_ce, u4_le, u4_fc, u4_hd, u4_st, u4_dc, u4_dn, u4_cl, u4_cf, u4_so, u4_bw, u4_wh, u4_be, u4_af, u4_li, u4_mv, u4_pi, u4_fe, u4_fn, u4_fh, u4_ru, u4_he, u4_wr, u4_la, u4_ma⟩ := u2
    refine br_t rfl (ae_holds k1 ht (br_t rfl (ae_cells k1 (fun u3 k3 => ?_))))
    obtain ⟨u5_se, u5_ce, u5_le, u5_fc, u5_hd, u5_st, u5_dc, u5_dn, u5_cl, u5_cf, u5_so, u5_bw, u5_wh, u5_be, u5_af, u5_li, u5_mv, u5_pi, u5_fe, u5_fn, u5_fh, u5_ru, u5_he, u5_wr, u5_la, u5_ma⟩ := u3
    have hz : ae_hl ru he t = he t := by
      unfold ae_hl
      rw [if_neg z]
    have lm : (ae_up sk t ((sk t).drop ((sk t).length - mk t)) t).length = mk t := by
      rw [ae_us, List.length_drop]
      omega
    have wb : (sk t).length ≤ 20 := by
      obtain ⟨se, ce, le, fc, hd, st, dc, dn, cl, cf, g, mv, pi, fe, fn, fh, la, ma, num, fst, Z, b, _, x⟩ := h1
      have q := x.2.2.2.2.2.2.2.2.2.2 t ht
      have a := q.2.2.2.2.2.1
      have b := q.2.2.2.2.2.2.2.2.1
      omega
    refine ae_mask hl (ae_mask hl (br_t (ae_blx (fun k hk => ?_)) ?_))
    · rw [ae_bla, ae_bla, ae_bln _ hk, ae_blk hk, hz, ae_blp hk, ae_blp hk]
      by_cases y : (he t).testBit (k / 4) = true
      · rw [y, Bool.not_true, Bool.and_false, Bool.and_false]
      · rw [ae_Ebk h1 ht y]
    · refine ae_back0 k3 ht z lm (fun u4 k4 => ?_)
      obtain ⟨u6_se, u6_ce, u6_le, u6_fc, u6_hd, u6_st, u6_dc, u6_dn, u6_cl, u6_cf, u6_so, u6_bw, u6_wh, u6_be, u6_af, u6_li, u6_mv, u6_pi, u6_fe, u6_fn, u6_fh, u6_ru, u6_he, u6_wr, u6_la, u6_ma⟩ := u4
      refine ae_back0 k2 ht z lm (fun u5 k5 => ?_)
      obtain ⟨u7_se, u7_ce, u7_le, u7_fc, u7_hd, u7_st, u7_dc, u7_dn, u7_cl, u7_cf, u7_so, u7_bw, u7_wh, u7_be, u7_af, u7_li, u7_mv, u7_pi, u7_fe, u7_fn, u7_fh, u7_ru, u7_he, u7_wr, u7_la, u7_ma⟩ := u5
      refine br_t rfl (br_f (nI_pos (by omega)) ?_)
      refine ae_back0 k4 ht z lm (fun u6 k6 => ?_)
      obtain ⟨u8_se, u8_ce, u8_le, u8_fc, u8_hd, u8_st, u8_dc, u8_dn, u8_cl, u8_cf, u8_so, u8_bw, u8_wh, u8_be, u8_af, u8_li, u8_mv, u8_pi, u8_fe, u8_fn, u8_fh, u8_ru, u8_he, u8_wr, u8_la, u8_ma⟩ := u6
      exact br_t rfl (ae_l746s k6 k5 ht hb HJ)
theorem ae_op13 {post : Int32 → Prop} {L : Nat} {xs : Nat → Int32} {J45 : ae_J} {x4 x6 x8 : Int64} {i t kc ks op v : Nat} {u1_se u1_ce u1_le u1_fc u1_hd u1_st : Int32} {u1_dc u1_dn u1_cl u1_cf u1_so u1_bw u1_wh u1_be u1_af u1_li u1_mv u1_pi u1_fe u1_fn u1_fh u1_ru u1_he u1_wr u1_la u1_ma : Nat → Int32} {u2_se u2_ce u2_le u2_fc u2_hd u2_st : Int32} {u2_dc u2_dn u2_cl u2_cf u2_so u2_bw u2_wh u2_be u2_af u2_li u2_mv u2_pi u2_fe u2_fn u2_fh u2_ru u2_he u2_wr u2_la u2_ma : Nat → Int32} (h1 : (ae_EN 201 V cur ru he wr sk mk) (u1_se, u1_ce, u1_le, u1_fc, u1_hd, u1_st, u1_dc, u1_dn, u1_cl, u1_cf, u1_so, u1_bw, u1_wh, u1_be, u1_af, u1_li, u1_mv, u1_pi, u1_fe, u1_fn, u1_fh, u1_ru, u1_he, u1_wr, u1_la, u1_ma)) (h2 : (ae_EN 201 V cur ru he wr sk mk) (u2_se, u2_ce, u2_le, u2_fc, u2_hd, u2_st, u2_dc, u2_dn, u2_cl, u2_cf, u2_so, u2_bw, u2_wh, u2_be, u2_af, u2_li, u2_mv, u2_pi, u2_fe, u2_fn, u2_fh, u2_ru, u2_he, u2_wr, u2_la, u2_ma)) (ht : t < 3) (hb : ae_BS V ru he (ae_B3 x4 x6 x8)) (HJ : ae_HJ J45 i) (ho : op = 13) :
    wL_law_153 post L xs J45 x4 x6 x8 (nI i) (nI op) (nI t) (nI v) (nI (v % 16)) (ae_pk cur 16) (nI (ae_hl ru he t)) (nI (ae_hl ru he 0)) (nI (ae_hl ru he 1)) (nI (ae_hl ru he 2)) (ae_B3 x4 x6 x8 t) kc ks u1_se u1_ce u1_le u1_fc u1_hd u1_st u1_dc u1_dn u1_cl u1_cf u1_so u1_bw u1_wh u1_be u1_af u1_li u1_mv u1_pi u1_fe u1_fn u1_fh u1_ru u1_he u1_wr u1_la u1_ma u2_se u2_ce u2_le u2_fc u2_hd u2_st u2_dc u2_dn u2_cl u2_cf u2_so u2_bw u2_wh u2_be u2_af u2_li u2_mv u2_pi u2_fe u2_fn u2_fh u2_ru u2_he u2_wr u2_la u2_ma := by
  unfold wL_law_153
  refine pk_lt 2 op (fun _ => pk_lt 8 op (fun _ => pk_eq op 9 (fun z => absurd z (by omega)) (fun _ => pk_eq op 10 (fun z => absurd z (by omega)) (fun _ => pk_eq op 11 (fun z => absurd z (by omega)) (fun _ => pk_eq op 12 (fun z => absurd z (by omega)) (fun _ => pk_eq op 13 (fun _ => ?_) (fun z => absurd ho z)))))) (fun z => absurd z (by omega))) (fun z => absurd z (by omega))
  refine ae_ckp h1 (fun u1 k1 => ?_)
  obtain ⟨u3_se, u3_ce, u3_le, u3_fc, u3_hd, u3_st, u3_dc, u3_dn, u3_cl, u3_cf, u3_so, u3_bw, u3_wh, u3_be, u3_af, u3_li, u3_mv, u3_pi, u3_fe, u3_fn, u3_fh, u3_ru, u3_he, u3_wr, u3_la, u3_ma⟩ := u1
  refine ae_ckp h2 (fun u2 k2 => ?_)
  obtain ⟨u4_se, u4_ce, u4_le, u4_fc, u4_hd, u4_st, u4_dc, u4_dn, u4_cl, u4_cf, u4_so, u4_bw, u4_wh, u4_be, u4_af, u4_li, u4_mv, u4_pi, u4_fe, u4_fn, u4_fh, u4_ru, u4_he, u4_wr, u4_la, u4_ma⟩ := u2
  exact br_t rfl (ae_l746s k1 k2 ht hb HJ)
end
end
section
/-! the law's steps: writes and crashes -/
theorem ae_sh4 {v : Nat} (h : v < 1048576) : (nI v >>> ((4 : Int32) &&& 31)) &&& 15 = nI (v / 16 % 16) := by
  rw [pk_shrN (by omega) _ 4 (by decide)]
  exact pk_andN (by omega) 4 (by decide)
theorem ae_sh26 {v : Nat} (h : v < 1048576) : (nI v >>> ((2 : Int32) &&& 31)) &&& 63 = nI (v / 4 % 64) := by
  rw [pk_shrN (by omega) _ 2 (by decide)]
  exact pk_andN (by omega) 6 (by decide)
section
variable {se ce le fc hd st : Nat} {dc dn cl cf mv pi fe fn fh ru he wr la ma cur num fst : Nat → Nat} {g : Nat → ae_E} {N b : Nat} {V Z mk : Nat → Nat} {sk : Nat → List (Nat × Nat)}
theorem ae_l268 {post : Int32 → Prop} {L : Nat} {xs : Nat → Int32} {J45 : ae_J} {x4 x6 x8 z : Int64} {i t kc ks v r h17 : Nat} {u1_se u1_ce u1_le u1_fc u1_hd u1_st : Int32} {u1_dc u1_dn u1_cl u1_cf u1_so u1_bw u1_wh u1_be u1_af u1_li u1_mv u1_pi u1_fe u1_fn u1_fh u1_ru u1_he u1_wr u1_la u1_ma : Nat → Int32} {u2_se u2_ce u2_le u2_fc u2_hd u2_st : Int32} {u2_dc u2_dn u2_cl u2_cf u2_so u2_bw u2_wh u2_be u2_af u2_li u2_mv u2_pi u2_fe u2_fn u2_fh u2_ru u2_he u2_wr u2_la u2_ma : Nat → Int32} (h1 : (ae_EN 201 V cur ru he wr sk mk) (u1_se, u1_ce, u1_le, u1_fc, u1_hd, u1_st, u1_dc, u1_dn, u1_cl, u1_cf, u1_so, u1_bw, u1_wh, u1_be, u1_af, u1_li, u1_mv, u1_pi, u1_fe, u1_fn, u1_fh, u1_ru, u1_he, u1_wr, u1_la, u1_ma)) (h2 : (ae_EN 201 V cur ru he wr sk mk) (u2_se, u2_ce, u2_le, u2_fc, u2_hd, u2_st, u2_dc, u2_dn, u2_cl, u2_cf, u2_so, u2_bw, u2_wh, u2_be, u2_af, u2_li, u2_mv, u2_pi, u2_fe, u2_fn, u2_fh, u2_ru, u2_he, u2_wr, u2_la, u2_ma)) (ht : t < 3) (hv : v < 1048576) (hr0 : 0 < r) (hr1 : r ≤ 16) (hr : ru t ≠ 0)
    (e1 : he t = h17 ||| 2 ^ (v % 16)) (e2 : cur (v % 16) = v / 16 % 16) (hb : ae_BS V ru he (ae_up (ae_B3 x4 x6 x8) t z)) (HJ : ae_HJ J45 i) :
    wL_law_268 post L xs J45 x4 x6 x8 (nI i) (nI t) (nI v) (nI (v % 16)) (nI h17) z (nI r) kc ks u1_se u1_ce u1_le u1_fc u1_hd u1_st u1_dc u1_dn u1_cl u1_cf u1_so u1_bw u1_wh u1_be u1_af u1_li u1_mv u1_pi u1_fe u1_fn u1_fh u1_ru u1_he u1_wr u1_la u1_ma u2_se u2_ce u2_le u2_fc u2_hd u2_st u2_dc u2_dn u2_cl u2_cf u2_so u2_bw u2_wh u2_be u2_af u2_li u2_mv u2_pi u2_fe u2_fn u2_fh u2_ru u2_he u2_wr u2_la u2_ma := by
  unfold wL_law_268 wL_law_307
  refine pk_le r 0 (fun w => absurd w (by omega)) (fun _ => ?_)
  have hz : ae_hl ru he t = he t := by
    unfold ae_hl
    rw [if_neg hr]
  refine ae_holds h1 ht (br_t ?_ (ae_read h1 (by omega) (fun u3 k3 => ?_)))
  · rw [hz, e1, ae_sh1 _ (by omega), ae_nor]
  · obtain ⟨u3_se, u3_ce, u3_le, u3_fc, u3_hd, u3_st, u3_dc, u3_dn, u3_cl, u3_cf, u3_so, u3_bw, u3_wh, u3_be, u3_af, u3_li, u3_mv, u3_pi, u3_fe, u3_fn, u3_fh, u3_ru, u3_he, u3_wr, u3_la, u3_ma⟩ := u3
    refine br_t ?_ (ae_l746 k3 h2 ht hb HJ)
    rw [e2, ae_sh4 hv]
theorem ae_op3 {post : Int32 → Prop} {L : Nat} {xs : Nat → Int32} {J45 : ae_J} {x4 x6 x8 : Int64} {i t kc ks op v : Nat} {u1_se u1_ce u1_le u1_fc u1_hd u1_st : Int32} {u1_dc u1_dn u1_cl u1_cf u1_so u1_bw u1_wh u1_be u1_af u1_li u1_mv u1_pi u1_fe u1_fn u1_fh u1_ru u1_he u1_wr u1_la u1_ma : Nat → Int32} {u2_se u2_ce u2_le u2_fc u2_hd u2_st : Int32} {u2_dc u2_dn u2_cl u2_cf u2_so u2_bw u2_wh u2_be u2_af u2_li u2_mv u2_pi u2_fe u2_fn u2_fh u2_ru u2_he u2_wr u2_la u2_ma : Nat → Int32} (h1 : (ae_EN 201 V cur ru he wr sk mk) (u1_se, u1_ce, u1_le, u1_fc, u1_hd, u1_st, u1_dc, u1_dn, u1_cl, u1_cf, u1_so, u1_bw, u1_wh, u1_be, u1_af, u1_li, u1_mv, u1_pi, u1_fe, u1_fn, u1_fh, u1_ru, u1_he, u1_wr, u1_la, u1_ma)) (h2 : (ae_EN 201 V cur ru he wr sk mk) (u2_se, u2_ce, u2_le, u2_fc, u2_hd, u2_st, u2_dc, u2_dn, u2_cl, u2_cf, u2_so, u2_bw, u2_wh, u2_be, u2_af, u2_li, u2_mv, u2_pi, u2_fe, u2_fn, u2_fh, u2_ru, u2_he, u2_wr, u2_la, u2_ma)) (ht : t < 3) (hv : v < 1048576) (hb : ae_BS V ru he (ae_B3 x4 x6 x8)) (HJ : ae_HJ J45 i) (ho : 3 ≤ op) (ho2 : op ≤ 8) :
    wL_law_153 post L xs J45 x4 x6 x8 (nI i) (nI op) (nI t) (nI v) (nI (v % 16)) (ae_pk cur 16) (nI (ae_hl ru he t)) (nI (ae_hl ru he 0)) (nI (ae_hl ru he 1)) (nI (ae_hl ru he 2)) (ae_B3 x4 x6 x8 t) kc ks u1_se u1_ce u1_le u1_fc u1_hd u1_st u1_dc u1_dn u1_cl u1_cf u1_so u1_bw u1_wh u1_be u1_af u1_li u1_mv u1_pi u1_fe u1_fn u1_fh u1_ru u1_he u1_wr u1_la u1_ma u2_se u2_ce u2_le u2_fc u2_hd u2_st u2_dc u2_dn u2_cl u2_cf u2_so u2_bw u2_wh u2_be u2_af u2_li u2_mv u2_pi u2_fe u2_fn u2_fh u2_ru u2_he u2_wr u2_la u2_ma := by
  unfold wL_law_153
  refine pk_lt 2 op (fun _ => pk_lt 8 op (fun z => absurd z (by omega)) (fun _ => ?_)) (fun z => absurd z (by omega))
  rw [ae_sh4 hv]
  have fault : ∀ r : Int32, r ≤ 0 → wL_law_268 post L xs J45 x4 x6 x8 (nI i) (nI t) (nI v) (nI (v % 16)) (nI (ae_hl ru he t)) (ae_B3 x4 x6 x8 t) r kc ks u1_se u1_ce u1_le u1_fc u1_hd u1_st u1_dc u1_dn u1_cl u1_cf u1_so u1_bw u1_wh u1_be u1_af u1_li u1_mv u1_pi u1_fe u1_fn u1_fh u1_ru u1_he u1_wr u1_la u1_ma u2_se u2_ce u2_le u2_fc u2_hd u2_st u2_dc u2_dn u2_cl u2_cf u2_so u2_bw u2_wh u2_be u2_af u2_li u2_mv u2_pi u2_fe u2_fn u2_fh u2_ru u2_he u2_wr u2_la u2_ma := by
    intro r hr
    unfold wL_law_268 wL_law_307
    exact br_t hr (ae_l746s h1 h2 ht hb HJ)
  have c16 : v % 16 < 16 := by omega
  refine ae_write h1 ht c16 (fun a => ?_) (fun a b => ?_) (fun a b d => ?_) (fun a b d u1 k1 => ?_)
  · refine ae_write h2 ht c16 (fun _ => br_t rfl (br_t (by decide) (fault _ (by decide)))) (fun a' => absurd a a') (fun a' => absurd a a') (fun a' => absurd a a')
  · refine ae_write h2 ht c16 (fun a' => absurd a' a) (fun _ _ => br_t rfl (br_t (by decide) (fault _ (by decide)))) (fun _ b' => absurd b b') (fun _ b' => absurd b b')
  · refine ae_write h2 ht c16 (fun a' => absurd a' a) (fun _ b' => absurd b' b) (fun _ _ _ => br_t rfl (br_t (by decide) (fault _ (by decide)))) (fun _ _ d' => absurd d' (by omega))
  · obtain ⟨u3_se, u3_ce, u3_le, u3_fc, u3_hd, u3_st, u3_dc, u3_dn, u3_cl, u3_cf, u3_so, u3_bw, u3_wh, u3_be, u3_af, u3_li, u3_mv, u3_pi, u3_fe, u3_fn, u3_fh, u3_ru, u3_he, u3_wr, u3_la, u3_ma⟩ := u1
    refine ae_write h2 ht c16 (fun a' => absurd a' a) (fun _ b' => absurd b' b) (fun _ _ d' => absurd d' (by omega)) (fun _ _ _ u2 k2 => ?_)
    obtain ⟨u4_se, u4_ce, u4_le, u4_fc, u4_hd, u4_st, u4_dc, u4_dn, u4_cl, u4_cf, u4_so, u4_bw, u4_wh, u4_be, u4_af, u4_li, u4_mv, u4_pi, u4_fe, u4_fn, u4_fh, u4_ru, u4_he, u4_wr, u4_la, u4_ma⟩ := u2
    have bc : (he t ||| 2 ^ (v % 16)).testBit (v % 16) = true := by
      rw [Nat.testBit_or, Nat.testBit_two_pow_self, Bool.or_true]
    have r0 := ae_bcpos bc 16 c16
    have r1 := ae_bcle (h := he t ||| 2 ^ (v % 16)) 16
    have hz : ae_hl ru he t = he t := by
      unfold ae_hl
      rw [if_neg a]
    have h16 := ae_Ehe h1 ht
    refine br_t rfl (pk_le (ae_bc (he t ||| 2 ^ (v % 16)) 16) 0 (fun w => absurd w (by omega)) (fun _ => ?_))
    rw [hz]
    refine ek_if (ae_bit h16 c16) (fun w => nm_e ?_) (fun w => ?_)
    · refine ae_l268 k1 k2 ht hv r0 r1 a ae_us ae_us ?_ HJ
      intro t' ht' hr' c hc hbit j hj
      by_cases y : t' = t
      · rw [y] at hbit ⊢
        rw [ae_us] at hbit ⊢
        have k64 : 4 * c + j < 64 := by omega
        rw [ae_blo, ae_bla, ae_bla, ae_bln _ k64, ae_bl15 _ c16 _ k64, ae_blp k64, show (4 * c + j) / 4 = c by omega, show (4 * c + j) % 4 = j by omega]
        by_cases q : c = v % 16
        · have vf : V c = cur c := ae_Efree h1 hc (fun u hu hru hbu => by
            by_cases e : u = t
            · rw [e, q] at hbu
              exact w hbu
            · exact b ⟨u, hu, e, hru, by rw [← q]; exact hbu⟩)
          rw [decide_eq_true q, Bool.not_true, Bool.and_false, Bool.false_or, Bool.and_true, vf]
        · rw [decide_eq_false q, Bool.not_false, Bool.and_true, Bool.and_false, Bool.or_false]
          rw [Nat.testBit_or, Nat.testBit_two_pow, decide_eq_false (fun e => q e.symm), Bool.or_false] at hbit
          exact hb t ht a c hc hbit j hj
      · rw [ae_un y] at hbit ⊢
        exact hb t' ht' hr' c hc hbit j hj
    · refine ae_l268 k1 k2 ht hv r0 r1 a ae_us ae_us ?_ HJ
      rw [ae_upid]
      intro t' ht' hr' c hc hbit j hj
      by_cases y : t' = t
      · rw [y] at hbit ⊢
        rw [ae_us] at hbit
        by_cases q : c = v % 16
        · exact hb t ht a c hc (by rw [q]; exact Classical.byContradiction w) j hj
        · rw [Nat.testBit_or, Nat.testBit_two_pow, decide_eq_false (fun e => q e.symm), Bool.or_false] at hbit
          exact hb t ht a c hc hbit j hj
      · rw [ae_un y] at hbit
        exact hb t' ht' hr' c hc hbit j hj
theorem ae_hlb {t c : Nat} : (ae_hl ru he t).testBit c = true ↔ ru t ≠ 0 ∧ (he t).testBit c = true := by
  unfold ae_hl
  by_cases z : ru t = 0
  · rw [if_pos z, Nat.zero_testBit]
    exact ⟨fun w => absurd w (by decide), fun w => absurd z w.1⟩
  · rw [if_neg z]
    exact ⟨fun w => ⟨z, w⟩, fun w => w.2⟩
/-- behind a crash -/
theorem ae_l615 {post : Int32 → Prop} {L : Nat} {xs : Nat → Int32} {J45 : ae_J} {x4 x6 x8 : Int64} {r : Int32} {u : St1} {i t kc ks : Nat} {u1_se u1_ce u1_le u1_fc u1_hd u1_st : Int32} {u1_dc u1_dn u1_cl u1_cf u1_so u1_bw u1_wh u1_be u1_af u1_li u1_mv u1_pi u1_fe u1_fn u1_fh u1_ru u1_he u1_wr u1_la u1_ma : Nat → Int32} {u2_se u2_ce u2_le u2_fc u2_hd u2_st : Int32} {u2_dc u2_dn u2_cl u2_cf u2_so u2_bw u2_wh u2_be u2_af u2_li u2_mv u2_pi u2_fe u2_fn u2_fh u2_ru u2_he u2_wr u2_la u2_ma : Nat → Int32} (h0 : (ae_EN 201 V cur ru he wr sk mk) u) (h1 : ae_EN 201 V V (ae_zz ru 3) he wr (fun _ => []) mk (u1_se, u1_ce, u1_le, u1_fc, u1_hd, u1_st, u1_dc, u1_dn, u1_cl, u1_cf, u1_so, u1_bw, u1_wh, u1_be, u1_af, u1_li, u1_mv, u1_pi, u1_fe, u1_fn, u1_fh, u1_ru, u1_he, u1_wr, u1_la, u1_ma)) (h2 : ae_EN 201 V V (ae_zz ru 3) he wr (fun _ => []) mk (u2_se, u2_ce, u2_le, u2_fc, u2_hd, u2_st, u2_dc, u2_dn, u2_cl, u2_cf, u2_so, u2_bw, u2_wh, u2_be, u2_af, u2_li, u2_mv, u2_pi, u2_fe, u2_fn, u2_fh, u2_ru, u2_he, u2_wr, u2_la, u2_ma)) (ht : t < 3) (hb : ae_BS V ru he (ae_B3 x4 x6 x8)) (HJ : ae_HJ J45 i) :
    wL_law_615 post L xs J45 x4 x6 x8 (nI i) (nI t) (ae_pk cur 16) (nI (ae_hl ru he 0)) (nI (ae_hl ru he 1)) (nI (ae_hl ru he 2)) (ae_B3 x4 x6 x8 t) r r kc ks u1_se u1_ce u1_le u1_fc u1_hd u1_st u1_dc u1_dn u1_cl u1_cf u1_so u1_bw u1_wh u1_be u1_af u1_li u1_mv u1_pi u1_fe u1_fn u1_fh u1_ru u1_he u1_wr u1_la u1_ma u2_se u2_ce u2_le u2_fc u2_hd u2_st u2_dc u2_dn u2_cl u2_cf u2_so u2_bw u2_wh u2_be u2_af u2_li u2_mv u2_pi u2_fe u2_fn u2_fh u2_ru u2_he u2_wr u2_la u2_ma := by
  have l0 := ae_hlt (t := 0) h0 (by omega)
  have l1 := ae_hlt (t := 1) h0 (by omega)
  have l2 := ae_hlt (t := 2) h0 (by omega)
  have la : ae_hl ru he 0 ||| ae_hl ru he 1 ||| ae_hl ru he 2 < 65536 := Nat.or_lt_two_pow (n := 16) (Nat.or_lt_two_pow (n := 16) l0 l1) l2
  have z3 : ∀ t, t < 3 → ae_hl (ae_zz ru 3) he t = 0 := by
    intro t ht
    unfold ae_hl
    rw [ae_zlt 3 t ht, if_pos rfl]
  have rn : ae_rn (ae_zz ru 3) 3 = 0 := rfl
  have dj := ae_Edj h0
  have d01 : ∀ c, (ae_hl ru he 0).testBit c = true → (ae_hl ru he 1).testBit c = false := fun c a => Bool.eq_false_iff.mpr (fun b => dj 0 1 (by omega) (by omega) (by omega) (ae_hlb.mp a).1 (ae_hlb.mp b).1 c (ae_hlb.mp a).2 (ae_hlb.mp b).2)
  have d02 : ∀ c, (ae_hl ru he 0).testBit c = true → (ae_hl ru he 2).testBit c = false := fun c a => Bool.eq_false_iff.mpr (fun b => dj 0 2 (by omega) (by omega) (by omega) (ae_hlb.mp a).1 (ae_hlb.mp b).1 c (ae_hlb.mp a).2 (ae_hlb.mp b).2)
  have d12 : ∀ c, (ae_hl ru he 1).testBit c = true → (ae_hl ru he 2).testBit c = false := fun c a => Bool.eq_false_iff.mpr (fun b => dj 1 2 (by omega) (by omega) (by omega) (ae_hlb.mp a).1 (ae_hlb.mp b).1 c (ae_hlb.mp a).2 (ae_hlb.mp b).2)
  have bs : ∀ t, t < 3 → ∀ k, k < 64 → (ae_hl ru he t).testBit (k / 4) = true → ae_bl (ae_B3 x4 x6 x8 t) k = (V (k / 4)).testBit (k % 4) := by
    intro t ht k hk a
    have q := hb t ht (ae_hlb.mp a).1 (k / 4) (by omega) (ae_hlb.mp a).2 (k % 4) (by omega)
    rw [ae_c4] at q
    exact q
  have fr : ∀ k, k < 64 → (ae_hl ru he 0).testBit (k / 4) = false → (ae_hl ru he 1).testBit (k / 4) = false → (ae_hl ru he 2).testBit (k / 4) = false → V (k / 4) = cur (k / 4) := by
    intro k hk a0 a1 a2
    refine ae_Efree h0 (by omega) (fun t ht hr hbit => ?_)
    have w := (ae_hlb (ru := ru) (he := he) (t := t) (c := k / 4)).mpr ⟨hr, hbit⟩
    have t3 : t = 0 ∨ t = 1 ∨ t = 2 := by omega
    rcases t3 with rfl | rfl | rfl
    · rw [a0] at w
      exact absurd w (by decide)
    · rw [a1] at w
      exact absurd w (by decide)
    · rw [a2] at w
      exact absurd w (by decide)
  unfold wL_law_615
  refine br_t rfl ?_
  rw [ae_nor, ae_nor]
  refine ae_mask la (ae_cells h1 (fun u3 k3 => ?_))
  obtain ⟨u3_se, u3_ce, u3_le, u3_fc, u3_hd, u3_st, u3_dc, u3_dn, u3_cl, u3_cf, u3_so, u3_bw, u3_wh, u3_be, u3_af, u3_li, u3_mv, u3_pi, u3_fe, u3_fn, u3_fh, u3_ru, u3_he, u3_wr, u3_la, u3_ma⟩ := u3
  refine br_t (ae_blx (fun k hk => ?_)) ?_
  · rw [ae_bla, ae_bla, ae_bln _ hk, ae_blk hk, ae_blp hk, ae_blp hk, Nat.testBit_or, Nat.testBit_or]
    cases a0 : (ae_hl ru he 0).testBit (k / 4)
    · cases a1 : (ae_hl ru he 1).testBit (k / 4)
      · cases a2 : (ae_hl ru he 2).testBit (k / 4)
        · rw [fr k hk a0 a1 a2]
        · simp only [Bool.or_true, Bool.not_true, Bool.and_false]
      · simp only [Bool.or_true, Bool.true_or, Bool.not_true, Bool.and_false]
    · simp only [Bool.true_or, Bool.not_true, Bool.and_false]
  · refine ae_holds (t := 0) k3 (by omega) (ae_holds (t := 1) k3 (by omega) (ae_holds (t := 2) k3 (by omega) (br_t ?_ ?_)))
    · rw [z3 0 (by omega), z3 1 (by omega), z3 2 (by omega)]
      decide
    · refine ae_ckp k3 (fun u4 k4 => ?_)
      obtain ⟨u4_se, u4_ce, u4_le, u4_fc, u4_hd, u4_st, u4_dc, u4_dn, u4_cl, u4_cf, u4_so, u4_bw, u4_wh, u4_be, u4_af, u4_li, u4_mv, u4_pi, u4_fe, u4_fn, u4_fh, u4_ru, u4_he, u4_wr, u4_la, u4_ma⟩ := u4
      rw [rn]
      refine br_t rfl (ae_mask l0 (ae_mask l1 (ae_mask l2 (ae_cells k4 (fun u5 k5 => ?_)))))
      obtain ⟨u5_se, u5_ce, u5_le, u5_fc, u5_hd, u5_st, u5_dc, u5_dn, u5_cl, u5_cf, u5_so, u5_bw, u5_wh, u5_be, u5_af, u5_li, u5_mv, u5_pi, u5_fe, u5_fn, u5_fh, u5_ru, u5_he, u5_wr, u5_la, u5_ma⟩ := u5
      refine br_t (ae_blx (fun k hk => ?_)) (ae_l746s k5 h2 ht (fun t' ht' hr' => absurd (ae_zlt 3 t' ht') hr') HJ)
      have b0 := bs 0 (by omega) k hk
      have b1 := bs 1 (by omega) k hk
      have b2 := bs 2 (by omega) k hk
      have e0 : ae_B3 x4 x6 x8 0 = x4 := rfl
      have e1 : ae_B3 x4 x6 x8 1 = x6 := rfl
      have e2 : ae_B3 x4 x6 x8 2 = x8 := rfl
      rw [e0] at b0
      rw [e1] at b1
      rw [e2] at b2
      rw [ae_blo, ae_blo, ae_blo, ae_bla, ae_bla, ae_bla, ae_bla, ae_bln _ hk, ae_blk hk, ae_blk hk, ae_blk hk, ae_blk hk, ae_blp hk, ae_blp hk, Nat.testBit_or, Nat.testBit_or]
      cases a0 : (ae_hl ru he 0).testBit (k / 4)
      · cases a1 : (ae_hl ru he 1).testBit (k / 4)
        · cases a2 : (ae_hl ru he 2).testBit (k / 4)
          · rw [fr k hk a0 a1 a2]
            simp only [Bool.or_false, Bool.and_false, Bool.not_false, Bool.and_true]
          · rw [b2 a2]
            simp only [Bool.or_true, Bool.false_or, Bool.and_false, Bool.not_true, Bool.and_true]
        · rw [b1 a1, d12 _ a1]
          simp only [Bool.or_true, Bool.false_or, Bool.or_false, Bool.and_false, Bool.not_true, Bool.and_true]
      · rw [b0 a0, d01 _ a0, d02 _ a0]
        simp only [Bool.or_true, Bool.false_or, Bool.or_false, Bool.and_false, Bool.not_true, Bool.and_true]
theorem ae_op14 {post : Int32 → Prop} {L : Nat} {xs : Nat → Int32} {J45 : ae_J} {x4 x6 x8 : Int64} {i t kc ks op v : Nat} {u1_se u1_ce u1_le u1_fc u1_hd u1_st : Int32} {u1_dc u1_dn u1_cl u1_cf u1_so u1_bw u1_wh u1_be u1_af u1_li u1_mv u1_pi u1_fe u1_fn u1_fh u1_ru u1_he u1_wr u1_la u1_ma : Nat → Int32} {u2_se u2_ce u2_le u2_fc u2_hd u2_st : Int32} {u2_dc u2_dn u2_cl u2_cf u2_so u2_bw u2_wh u2_be u2_af u2_li u2_mv u2_pi u2_fe u2_fn u2_fh u2_ru u2_he u2_wr u2_la u2_ma : Nat → Int32} (h1 : (ae_EN 201 V cur ru he wr sk mk) (u1_se, u1_ce, u1_le, u1_fc, u1_hd, u1_st, u1_dc, u1_dn, u1_cl, u1_cf, u1_so, u1_bw, u1_wh, u1_be, u1_af, u1_li, u1_mv, u1_pi, u1_fe, u1_fn, u1_fh, u1_ru, u1_he, u1_wr, u1_la, u1_ma)) (h2 : (ae_EN 201 V cur ru he wr sk mk) (u2_se, u2_ce, u2_le, u2_fc, u2_hd, u2_st, u2_dc, u2_dn, u2_cl, u2_cf, u2_so, u2_bw, u2_wh, u2_be, u2_af, u2_li, u2_mv, u2_pi, u2_fe, u2_fn, u2_fh, u2_ru, u2_he, u2_wr, u2_la, u2_ma)) (ht : t < 3) (hv : v < 1048576) (hb : ae_BS V ru he (ae_B3 x4 x6 x8)) (HJ : ae_HJ J45 i) (ho : 14 ≤ op) (ho2 : op < 16) :
    wL_law_153 post L xs J45 x4 x6 x8 (nI i) (nI op) (nI t) (nI v) (nI (v % 16)) (ae_pk cur 16) (nI (ae_hl ru he t)) (nI (ae_hl ru he 0)) (nI (ae_hl ru he 1)) (nI (ae_hl ru he 2)) (ae_B3 x4 x6 x8 t) kc ks u1_se u1_ce u1_le u1_fc u1_hd u1_st u1_dc u1_dn u1_cl u1_cf u1_so u1_bw u1_wh u1_be u1_af u1_li u1_mv u1_pi u1_fe u1_fn u1_fh u1_ru u1_he u1_wr u1_la u1_ma u2_se u2_ce u2_le u2_fc u2_hd u2_st u2_dc u2_dn u2_cl u2_cf u2_so u2_bw u2_wh u2_be u2_af u2_li u2_mv u2_pi u2_fe u2_fn u2_fh u2_ru u2_he u2_wr u2_la u2_ma := by
  unfold wL_law_153
  refine pk_lt 2 op (fun _ => pk_lt 8 op (fun _ => pk_eq op 9 (fun z => absurd z (by omega)) (fun _ => pk_eq op 10 (fun z => absurd z (by omega)) (fun _ => pk_eq op 11 (fun z => absurd z (by omega)) (fun _ => pk_eq op 12 (fun z => absurd z (by omega)) (fun _ => pk_eq op 13 (fun z => absurd z (by omega)) (fun _ => ?_)))))) (fun z => absurd z (by omega))) (fun z => absurd z (by omega))
  refine br_c (fun _ => ?_) (fun _ => ae_l746s h1 h2 ht hb HJ)
  refine ae_ckp h1 (fun u1 k1 => ?_)
  obtain ⟨u3_se, u3_ce, u3_le, u3_fc, u3_hd, u3_st, u3_dc, u3_dn, u3_cl, u3_cf, u3_so, u3_bw, u3_wh, u3_be, u3_af, u3_li, u3_mv, u3_pi, u3_fe, u3_fn, u3_fh, u3_ru, u3_he, u3_wr, u3_la, u3_ma⟩ := u1
  refine ae_crash k1 (fun u2 k2 => ?_)
  obtain ⟨u4_se, u4_ce, u4_le, u4_fc, u4_hd, u4_st, u4_dc, u4_dn, u4_cl, u4_cf, u4_so, u4_bw, u4_wh, u4_be, u4_af, u4_li, u4_mv, u4_pi, u4_fe, u4_fn, u4_fh, u4_ru, u4_he, u4_wr, u4_la, u4_ma⟩ := u2
  refine br_t rfl (pk_eq op 14 (fun _ => ?_) (fun _ => ?_))
  · refine ae_crash h2 (fun u3 k3 => ?_)
    obtain ⟨u5_se, u5_ce, u5_le, u5_fc, u5_hd, u5_st, u5_dc, u5_dn, u5_cl, u5_cf, u5_so, u5_bw, u5_wh, u5_be, u5_af, u5_li, u5_mv, u5_pi, u5_fe, u5_fn, u5_fh, u5_ru, u5_he, u5_wr, u5_la, u5_ma⟩ := u3
    exact ae_l615 h1 k2 k3 ht hb HJ
  · rw [ae_sh26 hv]
    refine ae_crash2 h2 (by omega) (fun u3 k3 => ?_)
    obtain ⟨u5_se, u5_ce, u5_le, u5_fc, u5_hd, u5_st, u5_dc, u5_dn, u5_cl, u5_cf, u5_so, u5_bw, u5_wh, u5_be, u5_af, u5_li, u5_mv, u5_pi, u5_fe, u5_fn, u5_fh, u5_ru, u5_he, u5_wr, u5_la, u5_ma⟩ := u3
    exact ae_l615 h1 k2 k3 ht hb HJ
end
end
section
/-! the beginning, the law's loop, what is owed -/
def ae_z0 : Nat → Nat := fun _ => 0
def ae_g0 : Nat → ae_E := fun _ => (0, 0, 0, 0, 0, 0)
section
variable {se ce le fc hd st : Nat} {dc dn cl cf mv pi fe fn fh ru he wr la ma cur num fst : Nat → Nat} {g : Nat → ae_E} {N b : Nat} {V Z mk : Nat → Nat} {sk : Nat → List (Nat × Nat)}
theorem ae_in185 {post : St1 → Prop} {mc ms : Nat} (f1 : 1 ≤ fc) (f3 : fc ≤ 3) (H : ∀ u, ae_EN 201 ae_z0 ae_z0 ae_z0 ae_z0 ae_z0 (fun _ => []) ae_z0 u → post u) :
    ∃ n, wX_init_185 post mc ms 20 2170 (nI 0) (nI 0) (nI 0) (nI fc) (nI 0) (nI 0) n 0 (ae_A ae_z0) (ae_A ae_z0) (ae_A ae_z0) (ae_A ae_z0) (ae_A ae_z0) (ae_A ae_z0) (ae_A ae_z0) (ae_A ae_z0) (ae_A ae_z0) (ae_A ae_z0) (ae_A ae_z0) (fun _ => 0) (ae_A ae_z0) (ae_A ae_z0) (ae_A ae_z0) (ae_A ae_z0) (ae_A ae_z0) (ae_A ae_z0) (ae_A ae_z0) (ae_A ae_z0) := by
  refine pk_loop (fun n i s => wX_init_185 post mc ms 20 2170 (nI 0) (nI 0) (nI 0) (nI fc) (nI 0) (nI 0) n (nI i) (ae_A ae_z0) (ae_A ae_z0) (ae_A ae_z0) (ae_A ae_z0) (ae_A ae_z0) (ae_A ae_z0) (ae_A ae_z0) (ae_A ae_z0) (ae_A ae_z0) (ae_A ae_z0) (ae_A ae_z0) s (ae_A ae_z0) (ae_A ae_z0) (ae_A ae_z0) (ae_A ae_z0) (ae_A ae_z0) (ae_A ae_z0) (ae_A ae_z0) (ae_A ae_z0)) (fun i s => s = ae_P (ae_zz (fun _ => 1) i)) 3 0 (fun _ => 0) (by omega) ?_ (fun n s hs => ?_) (fun n i s hi hs hw => ?_)
  · funext j
    show (0 : Int32) = nI 1 - 1
    decide
  · subst hs
    refine pk_le 3 3 (fun _ => ?_) (fun z => absurd z (by omega))
    have pi0 : ∀ f, f < 3 → ae_zz (fun _ => 1) 3 f = 0 := fun f hf => ae_zlt 3 f hf
    have pl : ae_PL fc 0 (ae_zz (fun _ => 1) 3) ae_z0 ae_z0 ae_z0 ae_z0 ae_z0 ae_z0 ae_z0 ae_z0 := by
      refine ⟨f1, f3, f1, fun f hf => by rw [pi0 f (by omega)]; omega, fun f k hf hk e hz => absurd (pi0 f (by omega)) hz, fun f p hf e => ?_, fun _ _ _ => rfl, fun _ _ _ => ⟨rfl, fun _ _ => rfl⟩, fun _ _ => ⟨Nat.zero_le _, Nat.zero_le _⟩⟩
      rw [pi0 f (by omega)] at e
      omega
    have x := ae_Xnew (V := ae_z0) (mv := ae_z0) (ma := ae_z0) (he := ae_z0) (wr := ae_z0) (fn' := ae_z0) (fh' := ae_z0) (dn' := ae_z0) (cl' := ae_z0) (cf' := ae_z0) (la' := ae_z0) (ru' := ae_z0) (g := ae_g0) (mk := ae_z0) pl (fun _ _ => rfl) (fun _ _ => rfl) (fun _ => Nat.zero_le _) (fun _ _ => ⟨Nat.zero_le _, by show 0 < 65536; omega, Nat.zero_le _⟩) (fun _ _ => rfl) (fun _ _ => rfl) (fun _ _ => rfl) (fun _ _ => rfl) (fun _ _ => rfl) (fun _ _ => rfl) (fun _ _ => rfl)
    exact H _ (ae_ENi (st := 0) x)
  · subst hs
    exact pk_le 3 i (fun z => absurd z (by omega)) (fun _ => ⟨pk_in i 3 hi, nm_r (ae_PU0 (by omega)) (nm_r (nI_1 i) (hw _ rfl))⟩)
theorem ae_init {post : St1 → Prop} {mc ms p : Nat} (hm : 20 ≤ mc) (hs : 2170 ≤ ms) (hp : p ≤ 3) (H : ∀ u, ae_EN 201 ae_z0 ae_z0 ae_z0 ae_z0 ae_z0 (fun _ => []) ae_z0 u → post u) : wpX_init post mc ms (0, 0, 0, 0, 0, 0) (nI p) := by
  unfold wpX_init
  dsimp only
  refine ⟨by omega, by omega, by omega, by omega, by omega, by omega, by omega, by omega, by omega, by omega, by omega, by omega, by omega, by omega, by omega, by omega, by omega, by omega, by omega, by omega, by omega, by omega, by omega, by omega, by omega, by omega, by omega, by omega, by omega, by omega, by omega, by omega, by omega, by omega, by omega, by omega, by omega, by omega, by omega, by omega, ?_⟩
  exact pk_le 1 p (fun z => pk_le p 3 (fun _ => ae_in185 (fc := p) z hp H) (fun y => absurd y (by omega))) (fun z => ae_in185 (fc := 1) (by omega) (by omega) H)
theorem ae_l153 {post : Int32 → Prop} {L : Nat} {xs : Nat → Int32} {J45 : ae_J} {x4 x6 x8 : Int64} {i t kc ks op v : Nat} {u1_se u1_ce u1_le u1_fc u1_hd u1_st : Int32} {u1_dc u1_dn u1_cl u1_cf u1_so u1_bw u1_wh u1_be u1_af u1_li u1_mv u1_pi u1_fe u1_fn u1_fh u1_ru u1_he u1_wr u1_la u1_ma : Nat → Int32} {u2_se u2_ce u2_le u2_fc u2_hd u2_st : Int32} {u2_dc u2_dn u2_cl u2_cf u2_so u2_bw u2_wh u2_be u2_af u2_li u2_mv u2_pi u2_fe u2_fn u2_fh u2_ru u2_he u2_wr u2_la u2_ma : Nat → Int32} (h1 : (ae_EN 201 V cur ru he wr sk mk) (u1_se, u1_ce, u1_le, u1_fc, u1_hd, u1_st, u1_dc, u1_dn, u1_cl, u1_cf, u1_so, u1_bw, u1_wh, u1_be, u1_af, u1_li, u1_mv, u1_pi, u1_fe, u1_fn, u1_fh, u1_ru, u1_he, u1_wr, u1_la, u1_ma)) (h2 : (ae_EN 201 V cur ru he wr sk mk) (u2_se, u2_ce, u2_le, u2_fc, u2_hd, u2_st, u2_dc, u2_dn, u2_cl, u2_cf, u2_so, u2_bw, u2_wh, u2_be, u2_af, u2_li, u2_mv, u2_pi, u2_fe, u2_fn, u2_fh, u2_ru, u2_he, u2_wr, u2_la, u2_ma)) (ht : t < 3) (hv : v < 1048576) (hop : op < 16) (hb : ae_BS V ru he (ae_B3 x4 x6 x8)) (HJ : ae_HJ J45 i) :
    wL_law_153 post L xs J45 x4 x6 x8 (nI i) (nI op) (nI t) (nI v) (nI (v % 16)) (ae_pk cur 16) (nI (ae_hl ru he t)) (nI (ae_hl ru he 0)) (nI (ae_hl ru he 1)) (nI (ae_hl ru he 2)) (ae_B3 x4 x6 x8 t) kc ks u1_se u1_ce u1_le u1_fc u1_hd u1_st u1_dc u1_dn u1_cl u1_cf u1_so u1_bw u1_wh u1_be u1_af u1_li u1_mv u1_pi u1_fe u1_fn u1_fh u1_ru u1_he u1_wr u1_la u1_ma u2_se u2_ce u2_le u2_fc u2_hd u2_st u2_dc u2_dn u2_cl u2_cf u2_so u2_bw u2_wh u2_be u2_af u2_li u2_mv u2_pi u2_fe u2_fn u2_fh u2_ru u2_he u2_wr u2_la u2_ma := by
  by_cases a : op ≤ 2
  · exact ae_op0 h1 h2 ht hb HJ a
  · by_cases b : op ≤ 8
    · exact ae_op3 h1 h2 ht hv hb HJ (by omega) b
    · by_cases c : 14 ≤ op
      · exact ae_op14 h1 h2 ht hv hb HJ c hop
      · have o : op = 9 ∨ op = 10 ∨ op = 11 ∨ op = 12 ∨ op = 13 := by omega
        rcases o with o | o | o | o | o
        · exact ae_op9 h1 h2 ht hb HJ o
        · exact ae_op10 h1 h2 ht hb HJ o
        · exact ae_op11 h1 h2 ht hb HJ o
        · exact ae_op12 h1 h2 ht hb HJ o
        · exact ae_op13 h1 h2 ht hb HJ o
end
theorem ae_lt2 {L i : Nat} (hL : L ≤ 260) (hi : i ≤ 1000) : (Int32.ofNat L - 2 < nI i) ↔ L < i + 2 := by
  have e1 : (nI L - nI 2).toInt = (L : Int) - 2 := pk_sub_toInt (by omega) (by omega)
  have e2 : (nI i).toInt = (i : Int) := nI_toInt (by omega)
  show (nI L - nI 2 < nI i) ↔ L < i + 2
  rw [Int32.lt_iff_toInt_lt, e1, e2]
  omega
theorem ae_l45 {L kc ks : Nat} {xs : Nat → Int32} (hL : L ≤ 260) : ∀ (f i : Nat) (b0 b1 b2 : Int64) (u1_se u1_ce u1_le u1_fc u1_hd u1_st : Int32) (u1_dc u1_dn u1_cl u1_cf u1_so u1_bw u1_wh u1_be u1_af u1_li u1_mv u1_pi u1_fe u1_fn u1_fh u1_ru u1_he u1_wr u1_la u1_ma : Nat → Int32) (u2_se u2_ce u2_le u2_fc u2_hd u2_st : Int32) (u2_dc u2_dn u2_cl u2_cf u2_so u2_bw u2_wh u2_be u2_af u2_li u2_mv u2_pi u2_fe u2_fn u2_fh u2_ru u2_he u2_wr u2_la u2_ma : Nat → Int32), L < i + 2 * (f + 1) → i ≤ 1000 → ae_IV b0 b1 b2 (u1_se, u1_ce, u1_le, u1_fc, u1_hd, u1_st, u1_dc, u1_dn, u1_cl, u1_cf, u1_so, u1_bw, u1_wh, u1_be, u1_af, u1_li, u1_mv, u1_pi, u1_fe, u1_fn, u1_fh, u1_ru, u1_he, u1_wr, u1_la, u1_ma) (u2_se, u2_ce, u2_le, u2_fc, u2_hd, u2_st, u2_dc, u2_dn, u2_cl, u2_cf, u2_so, u2_bw, u2_wh, u2_be, u2_af, u2_li, u2_mv, u2_pi, u2_fe, u2_fn, u2_fh, u2_ru, u2_he, u2_wr, u2_la, u2_ma) → wL_law_45 (fun r => r = 1) L xs kc ks (f + 1) b0 b1 b2 (nI i) u1_se u1_ce u1_le u1_fc u1_hd u1_st u1_dc u1_dn u1_cl u1_cf u1_so u1_bw u1_wh u1_be u1_af u1_li u1_mv u1_pi u1_fe u1_fn u1_fh u1_ru u1_he u1_wr u1_la u1_ma u2_se u2_ce u2_le u2_fc u2_hd u2_st u2_dc u2_dn u2_cl u2_cf u2_so u2_bw u2_wh u2_be u2_af u2_li u2_mv u2_pi u2_fe u2_fn u2_fh u2_ru u2_he u2_wr u2_la u2_ma := by
  have step : ∀ (n i : Nat) (b0 b1 b2 : Int64) (u1_se u1_ce u1_le u1_fc u1_hd u1_st : Int32) (u1_dc u1_dn u1_cl u1_cf u1_so u1_bw u1_wh u1_be u1_af u1_li u1_mv u1_pi u1_fe u1_fn u1_fh u1_ru u1_he u1_wr u1_la u1_ma : Nat → Int32) (u2_se u2_ce u2_le u2_fc u2_hd u2_st : Int32) (u2_dc u2_dn u2_cl u2_cf u2_so u2_bw u2_wh u2_be u2_af u2_li u2_mv u2_pi u2_fe u2_fn u2_fh u2_ru u2_he u2_wr u2_la u2_ma : Nat → Int32), i ≤ 1000 → (¬ L < i + 2 → ae_HJ (wL_law_45 (fun r => r = 1) L xs kc ks n) i) → ae_IV b0 b1 b2 (u1_se, u1_ce, u1_le, u1_fc, u1_hd, u1_st, u1_dc, u1_dn, u1_cl, u1_cf, u1_so, u1_bw, u1_wh, u1_be, u1_af, u1_li, u1_mv, u1_pi, u1_fe, u1_fn, u1_fh, u1_ru, u1_he, u1_wr, u1_la, u1_ma) (u2_se, u2_ce, u2_le, u2_fc, u2_hd, u2_st, u2_dc, u2_dn, u2_cl, u2_cf, u2_so, u2_bw, u2_wh, u2_be, u2_af, u2_li, u2_mv, u2_pi, u2_fe, u2_fn, u2_fh, u2_ru, u2_he, u2_wr, u2_la, u2_ma) → wL_law_45 (fun r => r = 1) L xs kc ks (n + 1) b0 b1 b2 (nI i) u1_se u1_ce u1_le u1_fc u1_hd u1_st u1_dc u1_dn u1_cl u1_cf u1_so u1_bw u1_wh u1_be u1_af u1_li u1_mv u1_pi u1_fe u1_fn u1_fh u1_ru u1_he u1_wr u1_la u1_ma u2_se u2_ce u2_le u2_fc u2_hd u2_st u2_dc u2_dn u2_cl u2_cf u2_so u2_bw u2_wh u2_be u2_af u2_li u2_mv u2_pi u2_fe u2_fn u2_fh u2_ru u2_he u2_wr u2_la u2_ma := by
    intro n i b0 b1 b2 u1_se u1_ce u1_le u1_fc u1_hd u1_st u1_dc u1_dn u1_cl u1_cf u1_so u1_bw u1_wh u1_be u1_af u1_li u1_mv u1_pi u1_fe u1_fn u1_fh u1_ru u1_he u1_wr u1_la u1_ma u2_se u2_ce u2_le u2_fc u2_hd u2_st u2_dc u2_dn u2_cl u2_cf u2_so u2_bw u2_wh u2_be u2_af u2_li u2_mv u2_pi u2_fe u2_fn u2_fh u2_ru u2_he u2_wr u2_la u2_ma hi HJ h
    obtain ⟨V, cur, ru, he, wr, sk, mk, h1, h2, hb⟩ := h
    refine ek_if (ae_lt2 hL hi) (fun _ => rfl) (fun z => ?_)
    have hj := HJ z
    obtain ⟨op, hop, eop⟩ := pk_andE (xs (nI i).toNatClampNeg) (m := 15) 4 (by decide)
    obtain ⟨m, hm, em⟩ := pk_andE (xs (nI i).toNatClampNeg >>> ((4 : Int32) &&& 31)) (m := 255) 8 (by decide)
    obtain ⟨v, hv, ev⟩ := pk_andE (xs (nI i + 1).toNatClampNeg) (m := 1048575) 20 (by decide)
    have iL : vp_in (nI i) L := pk_in i L (by omega)
    have ht : m % 3 < 3 := by omega
    refine ⟨iL, nm_r eop ⟨iL, by decide, nm_r (e' := nI (m % 3)) ?_ ⟨pk_in (i + 1) L (by omega) (nI_1 i), nm_r ev (nm_r (e' := nI (v % 16)) ?_ ?_)⟩⟩⟩
    · rw [em]
      exact pk_rem (a := m) (d := 3) (by omega) (by decide) (by decide)
    · exact pk_andN (by omega) 4 (by decide)
    · refine ae_cells h1 (fun u3 k3 => ?_)
      obtain ⟨u3_se, u3_ce, u3_le, u3_fc, u3_hd, u3_st, u3_dc, u3_dn, u3_cl, u3_cf, u3_so, u3_bw, u3_wh, u3_be, u3_af, u3_li, u3_mv, u3_pi, u3_fe, u3_fn, u3_fh, u3_ru, u3_he, u3_wr, u3_la, u3_ma⟩ := u3
      refine ae_holds k3 ht (ae_holds (t := 0) k3 (by omega) (ae_holds (t := 1) k3 (by omega) (ae_holds (t := 2) k3 (by omega) ?_)))
      have key := fun z (hz : z = ae_B3 b0 b1 b2 (m % 3)) => hz ▸ ae_l153 (post := fun r => r = 1) (L := L) (xs := xs) (kc := kc) (ks := ks) (op := op) (v := v) k3 h2 ht (by omega) (by omega) hb hj
      have t3 : m % 3 = 0 ∨ m % 3 = 1 ∨ m % 3 = 2 := by omega
      rcases t3 with e | e | e
      · exact br_t (by rw [e]; rfl) (key b0 (by rw [e]; rfl))
      · exact br_f (by rw [e]; decide) (br_t (by rw [e]; rfl) (key b1 (by rw [e]; rfl)))
      · exact br_f (by rw [e]; decide) (br_f (by rw [e]; decide) (key b2 (by rw [e]; rfl)))
  intro f
  induction f with
  | zero =>
    intro i b0 b1 b2 u1_se u1_ce u1_le u1_fc u1_hd u1_st u1_dc u1_dn u1_cl u1_cf u1_so u1_bw u1_wh u1_be u1_af u1_li u1_mv u1_pi u1_fe u1_fn u1_fh u1_ru u1_he u1_wr u1_la u1_ma u2_se u2_ce u2_le u2_fc u2_hd u2_st u2_dc u2_dn u2_cl u2_cf u2_so u2_bw u2_wh u2_be u2_af u2_li u2_mv u2_pi u2_fe u2_fn u2_fh u2_ru u2_he u2_wr u2_la u2_ma hf hi h
    exact step 0 i b0 b1 b2 u1_se u1_ce u1_le u1_fc u1_hd u1_st u1_dc u1_dn u1_cl u1_cf u1_so u1_bw u1_wh u1_be u1_af u1_li u1_mv u1_pi u1_fe u1_fn u1_fh u1_ru u1_he u1_wr u1_la u1_ma u2_se u2_ce u2_le u2_fc u2_hd u2_st u2_dc u2_dn u2_cl u2_cf u2_so u2_bw u2_wh u2_be u2_af u2_li u2_mv u2_pi u2_fe u2_fn u2_fh u2_ru u2_he u2_wr u2_la u2_ma hi (fun z => absurd hf (by omega)) h
  | succ f ih =>
    intro i b0 b1 b2 u1_se u1_ce u1_le u1_fc u1_hd u1_st u1_dc u1_dn u1_cl u1_cf u1_so u1_bw u1_wh u1_be u1_af u1_li u1_mv u1_pi u1_fe u1_fn u1_fh u1_ru u1_he u1_wr u1_la u1_ma u2_se u2_ce u2_le u2_fc u2_hd u2_st u2_dc u2_dn u2_cl u2_cf u2_so u2_bw u2_wh u2_be u2_af u2_li u2_mv u2_pi u2_fe u2_fn u2_fh u2_ru u2_he u2_wr u2_la u2_ma hf hi h
    refine step (f + 1) i b0 b1 b2 u1_se u1_ce u1_le u1_fc u1_hd u1_st u1_dc u1_dn u1_cl u1_cf u1_so u1_bw u1_wh u1_be u1_af u1_li u1_mv u1_pi u1_fe u1_fn u1_fh u1_ru u1_he u1_wr u1_la u1_ma u2_se u2_ce u2_le u2_fc u2_hd u2_st u2_dc u2_dn u2_cl u2_cf u2_so u2_bw u2_wh u2_be u2_af u2_li u2_mv u2_pi u2_fe u2_fn u2_fh u2_ru u2_he u2_wr u2_la u2_ma hi (fun z => ?_) h
    intro c0 c1 c2 u3_se u3_ce u3_le u3_fc u3_hd u3_st u3_dc u3_dn u3_cl u3_cf u3_so u3_bw u3_wh u3_be u3_af u3_li u3_mv u3_pi u3_fe u3_fn u3_fh u3_ru u3_he u3_wr u3_la u3_ma u4_se u4_ce u4_le u4_fc u4_hd u4_st u4_dc u4_dn u4_cl u4_cf u4_so u4_bw u4_wh u4_be u4_af u4_li u4_mv u4_pi u4_fe u4_fn u4_fh u4_ru u4_he u4_wr u4_la u4_ma h'
    exact ih (i + 2) c0 c1 c2 u3_se u3_ce u3_le u3_fc u3_hd u3_st u3_dc u3_dn u3_cl u3_cf u3_so u3_bw u3_wh u3_be u3_af u3_li u3_mv u3_pi u3_fe u3_fn u3_fh u3_ru u3_he u3_wr u3_la u3_ma u4_se u4_ce u4_le u4_fc u4_hd u4_st u4_dc u4_dn u4_cl u4_cf u4_so u4_bw u4_wh u4_be u4_af u4_li u4_mv u4_pi u4_fe u4_fn u4_fh u4_ru u4_he u4_wr u4_la u4_ma (by omega) (by omega) h'
theorem ae_l14 {L p : Nat} {xs : Nat → Int32} (hL : L ≤ 260) (hp : p ≤ 3) : wL_law_14 (fun r => r = 1) L xs (nI p) 0 0 := by
  unfold wL_law_14
  refine ⟨by omega, by omega, 20, 2170, by omega, by omega, ae_init (p := 1) (by omega) (by omega) (by omega) (fun u1 h1 => ?_)⟩
  obtain ⟨u1_se, u1_ce, u1_le, u1_fc, u1_hd, u1_st, u1_dc, u1_dn, u1_cl, u1_cf, u1_so, u1_bw, u1_wh, u1_be, u1_af, u1_li, u1_mv, u1_pi, u1_fe, u1_fn, u1_fh, u1_ru, u1_he, u1_wr, u1_la, u1_ma⟩ := u1
  refine ⟨by omega, by omega, 20, 2170, by omega, by omega, ae_init (by omega) (by omega) hp (fun u2 h2 => ?_)⟩
  obtain ⟨u2_se, u2_ce, u2_le, u2_fc, u2_hd, u2_st, u2_dc, u2_dn, u2_cl, u2_cf, u2_so, u2_bw, u2_wh, u2_be, u2_af, u2_li, u2_mv, u2_pi, u2_fe, u2_fn, u2_fh, u2_ru, u2_he, u2_wr, u2_la, u2_ma⟩ := u2
  exact ⟨L + 1, ae_l45 hL L 1 0 0 0 u1_se u1_ce u1_le u1_fc u1_hd u1_st u1_dc u1_dn u1_cl u1_cf u1_so u1_bw u1_wh u1_be u1_af u1_li u1_mv u1_pi u1_fe u1_fn u1_fh u1_ru u1_he u1_wr u1_la u1_ma u2_se u2_ce u2_le u2_fc u2_hd u2_st u2_dc u2_dn u2_cl u2_cf u2_so u2_bw u2_wh u2_be u2_af u2_li u2_mv u2_pi u2_fe u2_fn u2_fh u2_ru u2_he u2_wr u2_la u2_ma (by omega) (by omega) ⟨_, _, _, _, _, _, _, h1, h2, fun t ht hr => absurd rfl hr⟩⟩
theorem i_vc (xs : Nat → Int32) (L : Nat) (hL : L ≤ 260) : wpL_law (fun r => r = 1) L xs := by
  unfold wpL_law
  refine pk_le L 0 (fun _ => ae_l14 (p := 1) hL (by omega)) (fun z => ⟨pk_in 0 L z, ?_⟩)
  obtain ⟨p, hp, ep⟩ := pk_andE (xs (0 : Int32).toNatClampNeg) (m := 3) 2 (by decide)
  rw [ep]
  exact ae_l14 hL (by omega)
end
