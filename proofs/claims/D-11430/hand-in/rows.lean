section
/-! small rows: places as ints, lists of cells -/
theorem sk_m1 : (-1 : Int32) < 0 := by decide
theorem sk_ne {c : Nat} (h : c < 2 ^ 31) : ¬ nI c = -1 := fun e => absurd (show nI c < 0 by rw [e]; decide) (nI_pos h)
theorem sk_inj {c d : Nat} (hc : c < 32) (hd : d < 32) (h : nI c = nI d) : c = d := (nI_eq (by omega) (by omega)).mp h
theorem sk_us {α : Type} {f : Nat → α} {k : Nat} {x : α} : va_up f k x k = x := if_pos rfl
theorem sk_un {α : Type} {f : Nat → α} {k j : Nat} {x : α} (h : j ≠ k) : va_up f k x j = f j := if_neg h
theorem sk_shr {c : Nat} (h : c < 32) : nI c >>> ((2 : Int32) &&& 31) = nI (c / 4) := pk_shrN (by omega) _ 2 (by decide)
theorem sk_pig : ∀ (m : Nat) (l : List Nat), l.Nodup → (∀ x, x ∈ l → x < m) → l.length ≤ m := by
  intro m
  induction m with
  | zero =>
    intro l hn hb
    cases l with
    | nil => exact Nat.le_refl 0
    | cons a l => exact absurd (hb a List.mem_cons_self) (by omega)
  | succ m ih =>
    intro l hn hb
    have h := ih (l.erase m) (hn.erase m) (fun x hx => by
      have h1 := hn.mem_erase_iff.mp hx
      have h2 := hb x h1.2
      have h3 := h1.1
      omega)
    by_cases hm : m ∈ l
    · rw [List.length_erase_of_mem hm] at h
      omega
    · rw [List.erase_of_not_mem hm] at h
      omega
theorem sk_last (l : List Nat) : l = [] ∨ ∃ l' b, l = l' ++ [b] := by
  rcases List.eq_nil_or_concat l with h | ⟨l', b, h⟩
  · exact Or.inl h
  · exact Or.inr ⟨l', b, by rw [h, List.concat_eq_append]⟩
/-- one more item, one less -/
theorem sk_on {a : Nat → Int32} {c x : Nat} : upd a c 1 x = 1 ↔ x = c ∨ a x = 1 := by
  by_cases h : x = c
  · rw [h, pk_us]
    exact ⟨fun _ => Or.inl rfl, fun _ => rfl⟩
  · rw [pk_un h]
    exact ⟨fun z => Or.inr z, fun z => z.resolve_left h⟩
theorem sk_off {a : Nat → Int32} {c x : Nat} : upd a c 0 x = 1 ↔ x ≠ c ∧ a x = 1 := by
  by_cases h : x = c
  · rw [h, pk_us]
    exact ⟨fun z => absurd z (by decide), fun z => absurd rfl z.1⟩
  · rw [pk_un h]
    exact ⟨fun z => ⟨h, z⟩, fun z => z.2⟩

/-! a chain: from x through nx to -1 -/
def sk_ch (nx : Nat → Int32) : Int32 → List Nat → Prop
  | x, [] => x = -1
  | x, c :: l => x = nI c ∧ c < 32 ∧ sk_ch nx (nx c) l
theorem sk_ch_ext {nx ny : Nat → Int32} : ∀ {l : List Nat} {x : Int32}, (∀ j, j ∈ l → ny j = nx j) → sk_ch nx x l → sk_ch ny x l := by
  intro l
  induction l with
  | nil => intro x _ h; exact h
  | cons c l ih =>
    intro x he h
    refine ⟨h.1, h.2.1, ?_⟩
    rw [he c List.mem_cons_self]
    exact ih (fun j hj => he j (List.mem_cons_of_mem c hj)) h.2.2
theorem sk_ch_lt {nx : Nat → Int32} : ∀ {l : List Nat} {x : Int32}, sk_ch nx x l → ∀ c, c ∈ l → c < 32 := by
  intro l
  induction l with
  | nil => intro x _ c hc; exact absurd hc List.not_mem_nil
  | cons d l ih =>
    intro x h c hc
    rcases List.mem_cons.mp hc with e | e
    · rw [e]; exact h.2.1
    · exact ih h.2.2 c e
theorem sk_ch_len {nx : Nat → Int32} {l : List Nat} {x : Int32} (h : sk_ch nx x l) (hn : l.Nodup) : l.length ≤ 32 := sk_pig 32 l hn (sk_ch_lt h)

/-! a doubly linked row: before it p, its first x, its last q, behind it y -/
def sk_ds (o n : Nat → Int32) : Int32 → Int32 → List Nat → Int32 → Int32 → Prop
  | p, x, [], q, y => q = p ∧ x = y
  | p, x, c :: l, q, y => x = nI c ∧ c < 32 ∧ o c = p ∧ sk_ds o n (nI c) (n c) l q y
theorem sk_ds_ext {o n o' n' : Nat → Int32} {q y : Int32} : ∀ {l : List Nat} {p x : Int32}, (∀ j, j ∈ l → o' j = o j) → (∀ j, j ∈ l → n' j = n j) → sk_ds o n p x l q y → sk_ds o' n' p x l q y := by
  intro l
  induction l with
  | nil => intro p x _ _ h; exact h
  | cons c l ih =>
    intro p x h1 h2 h
    refine ⟨h.1, h.2.1, ?_, ?_⟩
    · rw [h1 c List.mem_cons_self]; exact h.2.2.1
    · rw [h2 c List.mem_cons_self]
      exact ih (fun j hj => h1 j (List.mem_cons_of_mem c hj)) (fun j hj => h2 j (List.mem_cons_of_mem c hj)) h.2.2.2
theorem sk_ds_lt {o n : Nat → Int32} {q y : Int32} : ∀ {l : List Nat} {p x : Int32}, sk_ds o n p x l q y → ∀ c, c ∈ l → c < 32 := by
  intro l
  induction l with
  | nil => intro p x _ c hc; exact absurd hc List.not_mem_nil
  | cons d l ih =>
    intro p x h c hc
    rcases List.mem_cons.mp hc with e | e
    · rw [e]; exact h.2.1
    · exact ih h.2.2.2 c e
theorem sk_ds_app {o n : Nat → Int32} {l2 : List Nat} {q y : Int32} : ∀ {l1 : List Nat} {p x : Int32}, sk_ds o n p x (l1 ++ l2) q y ↔ ∃ r z, sk_ds o n p x l1 r z ∧ sk_ds o n r z l2 q y := by
  intro l1
  induction l1 with
  | nil =>
    intro p x
    constructor
    · intro h
      exact ⟨p, x, ⟨rfl, rfl⟩, h⟩
    · intro h
      obtain ⟨r, z, ⟨e1, e2⟩, h⟩ := h
      subst e1 e2
      exact h
  | cons c l1 ih =>
    intro p x
    constructor
    · intro h
      obtain ⟨r, z, g1, g2⟩ := ih.mp h.2.2.2
      exact ⟨r, z, ⟨h.1, h.2.1, h.2.2.1, g1⟩, g2⟩
    · intro h
      obtain ⟨r, z, g, g2⟩ := h
      exact ⟨g.1, g.2.1, g.2.2.1, ih.mpr ⟨r, z, g.2.2.2, g2⟩⟩
theorem sk_ds_exit {o n : Nat → Int32} {p x q y : Int32} {l : List Nat} {d : Nat} (y' : Int32) (hd : d ∉ l) (h : sk_ds o n p x (l ++ [d]) q y) : sk_ds o (upd n d y') p x (l ++ [d]) q y' := by
  obtain ⟨r, z, h1, h2, h3, h4, h5, h6⟩ := sk_ds_app.mp h
  refine sk_ds_app.mpr ⟨r, z, sk_ds_ext (fun _ _ => rfl) (fun j hj => pk_un (fun e => hd (e ▸ hj))) h1, h2, h3, h4, h5, pk_us⟩
theorem sk_ds_end {o n : Nat → Int32} {p x q y : Int32} {l : List Nat} {d : Nat} (h : sk_ds o n p x (l ++ [d]) q y) : q = nI d ∧ d < 32 := by
  obtain ⟨r, z, h1, h2, h3, h4, h5, h6⟩ := sk_ds_app.mp h
  exact ⟨h5, h3⟩
theorem sk_ds_entry {o n : Nat → Int32} {p x q y : Int32} {l : List Nat} {e : Nat} (p' : Int32) (he : e ∉ l) (h : sk_ds o n p x (e :: l) q y) : sk_ds (upd o e p') n p' x (e :: l) q y :=
  ⟨h.1, h.2.1, pk_us, sk_ds_ext (fun j hj => pk_un (fun z => he (z ▸ hj))) (fun _ _ => rfl) h.2.2.2⟩
/-- the front half of taking c out -/
theorem sk_ds_front {o n : Nat → Int32} {h t : Int32} {l1 l2 : List Nat} {c : Nat} (hn : (l1 ++ c :: l2).Nodup) (hd : sk_ds o n (-1) h (l1 ++ c :: l2) t (-1)) :
    c < 32 ∧ (l1 ++ l2).Nodup ∧ ((l1 = [] ∧ o c = -1 ∧ sk_ds o n (nI c) (n c) l2 t (-1)) ∨ ∃ d, d < 32 ∧ d ∈ l1 ∧ o c = nI d ∧ sk_ds o (upd n d (n c)) (-1) h l1 (nI d) (n c) ∧ sk_ds o (upd n d (n c)) (nI c) (n c) l2 t (-1)) := by
  obtain ⟨r, z, h1, h2, h3, h4, h5⟩ := sk_ds_app.mp hd
  have hN := List.nodup_append.mp hn
  have hN2 := List.nodup_cons.mp hN.2.1
  have hn' : (l1 ++ l2).Nodup := List.nodup_append.mpr ⟨hN.1, hN2.2, fun a ha b hb => hN.2.2 a ha b (List.mem_cons_of_mem c hb)⟩
  refine ⟨h3, hn', ?_⟩
  rcases sk_last l1 with e | ⟨l0, d, e⟩
  · subst e
    obtain ⟨e1, e2⟩ := h1
    exact Or.inl ⟨rfl, by rw [h4, e1], h5⟩
  · subst e
    have hq := sk_ds_end h1
    have hd1 : d ∈ l0 ++ [d] := List.mem_append.mpr (Or.inr (List.mem_singleton.mpr rfl))
    have hdl0 : d ∉ l0 := fun hm => (List.nodup_append.mp hN.1).2.2 d hm d (List.mem_singleton.mpr rfl) rfl
    have hdl2 : ∀ j, j ∈ l2 → j ≠ d := fun j hj ej => hN.2.2 d hd1 d (List.mem_cons_of_mem c (ej ▸ hj)) rfl
    refine Or.inr ⟨d, hq.2, hd1, by rw [h4, hq.1], ?_, sk_ds_ext (fun _ _ => rfl) (fun j hj => pk_un (hdl2 j hj)) h5⟩
    have h1' := sk_ds_exit (n c) hdl0 h1
    rw [hq.1] at h1'
    exact h1'
end
section
/-! the heap, no program in sight: v k is the end at place k -/
def sk_oO (n : Nat) (v : Nat → Int) : Prop := ∀ i, 0 < i → i < n → v ((i - 1) / 2) ≤ v i
def sk_oQ (n : Nat) (v : Nat → Int) (m : Nat) : Prop := (∀ i, 0 < i → i < n → i ≠ m → (i - 1) / 2 ≠ m → v ((i - 1) / 2) ≤ v i) ∧ (0 < m → ∀ i, 0 < i → i < n → (i - 1) / 2 = m → v ((m - 1) / 2) ≤ v i)
def sk_oR (n : Nat) (v : Nat → Int) (m : Nat) : Prop := (∀ i, 0 < i → i < n → i ≠ m → v ((i - 1) / 2) ≤ v i) ∧ (0 < m → ∀ i, 0 < i → i < n → (i - 1) / 2 = m → v ((m - 1) / 2) ≤ v i)
def sk_oS (n : Nat) (v : Nat → Int) (m : Nat) : Prop := (∀ i, 0 < i → i < n → (i - 1) / 2 ≠ m → v ((i - 1) / 2) ≤ v i) ∧ (0 < m → ∀ i, 0 < i → i < n → (i - 1) / 2 = m → v ((m - 1) / 2) ≤ v i)
theorem sk_rise_step {n m : Nat} {v v' : Nat → Int} (hm : m < n) (h0 : 0 < m) (h : sk_oQ n v m) (hlt : v m < v ((m - 1) / 2)) (e1 : v' m = v ((m - 1) / 2)) (e2 : v' ((m - 1) / 2) = v m)
    (e3 : ∀ k, k ≠ m → k ≠ (m - 1) / 2 → v' k = v k) : sk_oR n v' ((m - 1) / 2) := by
  have hp : (m - 1) / 2 < m := by omega
  constructor
  · intro i h1 h2 h3
    by_cases c1 : i = m
    · rw [c1, e1, e2]
      omega
    · rw [e3 i c1 h3]
      by_cases c2 : (i - 1) / 2 = m
      · rw [c2, e1]
        exact h.2 h0 i h1 h2 c2
      · by_cases c3 : (i - 1) / 2 = (m - 1) / 2
        · have h4 := h.1 i h1 h2 c1 c2
          rw [c3] at h4
          rw [c3, e2]
          omega
        · rw [e3 _ c2 c3]
          exact h.1 i h1 h2 c1 c2
  · intro h0' i h1 h2 h3
    have g1 : v (((m - 1) / 2 - 1) / 2) ≤ v ((m - 1) / 2) := h.1 _ h0' (by omega) (by omega) (by omega)
    rw [e3 (((m - 1) / 2 - 1) / 2) (by omega) (by omega)]
    by_cases c1 : i = m
    · rw [c1, e1]
      exact g1
    · rw [e3 i c1 (by omega)]
      have h4 := h.1 i h1 h2 c1 (by omega)
      rw [h3] at h4
      omega
theorem sk_R_exit {n m : Nat} {v : Nat → Int} (h : sk_oR n v m) (hx : m = 0 ∨ v ((m - 1) / 2) ≤ v m) : sk_oO n v := by
  intro i h1 h2
  by_cases c : i = m
  · rw [c]
    rcases hx with z | z
    · omega
    · exact z
  · exact h.1 i h1 h2 c
theorem sk_Q_exit {n m : Nat} {v : Nat → Int} (h : sk_oQ n v m) (hx : m = 0 ∨ v ((m - 1) / 2) ≤ v m) : sk_oS n v m := by
  refine ⟨fun i h1 h2 h3 => ?_, h.2⟩
  by_cases c : i = m
  · rw [c]
    rcases hx with z | z
    · omega
    · exact z
  · exact h.1 i h1 h2 c h3
theorem sk_O_S {n : Nat} {v : Nat → Int} (m : Nat) (h : sk_oO n v) : sk_oS n v m := by
  refine ⟨fun i h1 h2 _ => h i h1 h2, fun h0 i h1 h2 h3 => ?_⟩
  have g1 := h m h0 (by omega)
  have g2 := h i h1 h2
  rw [h3] at g2
  omega
theorem sk_R_Q {n m : Nat} {v : Nat → Int} (h : sk_oR n v m) : sk_oQ n v m := ⟨fun i h1 h2 h3 _ => h.1 i h1 h2 h3, h.2⟩
theorem sk_sink_exit {n m : Nat} {v : Nat → Int} (h : sk_oS n v m) (hx : ∀ i, 0 < i → i < n → (i - 1) / 2 = m → v m ≤ v i) : sk_oO n v := by
  intro i h1 h2
  by_cases c : (i - 1) / 2 = m
  · rw [c]
    exact hx i h1 h2 c
  · exact h.1 i h1 h2 c
theorem sk_sink_step {n m j : Nat} {v v' : Nat → Int} (h : sk_oS n v m) (hj0 : 0 < j) (hj : j < n) (hp : (j - 1) / 2 = m) (hlt : v j < v m) (hmin : ∀ i, 0 < i → i < n → (i - 1) / 2 = m → v j ≤ v i)
    (e1 : v' j = v m) (e2 : v' m = v j) (e3 : ∀ k, k ≠ j → k ≠ m → v' k = v k) : sk_oS n v' j := by
  constructor
  · intro i h1 h2 h3
    by_cases c1 : (i - 1) / 2 = m
    · rw [c1, e2]
      by_cases c2 : i = j
      · rw [c2, e1]
        omega
      · rw [e3 i c2 (by omega)]
        exact hmin i h1 h2 c1
    · rw [e3 _ h3 c1]
      by_cases c2 : i = m
      · rw [c2, e2]
        exact h.2 (by omega) j hj0 hj hp
      · rw [e3 i (fun z => c1 (by rw [z]; exact hp)) c2]
        exact h.1 i h1 h2 c1
  · intro _ i h1 h2 h3
    rw [hp, e2, e3 i (by omega) (by omega)]
    have h4 := h.1 i h1 h2 (by omega)
    rw [h3] at h4
    exact h4
theorem sk_O_top {n : Nat} {v : Nat → Int} (h : sk_oO n v) : ∀ i, i < n → v 0 ≤ v i := by
  intro i
  induction i using Nat.strongRecOn with
  | ind i ih =>
    intro hi
    by_cases c : i = 0
    · rw [c]; exact Int.le_refl _
    · have g1 := ih ((i - 1) / 2) (by omega) (by omega)
      have g2 := h i (by omega) hi
      omega

/-! heap and heapPlace: g k is the cell at place k -/
def sk_hs (n : Nat) (h p : Nat → Int32) (g : Nat → Nat) : Prop := (∀ i, i < n → g i < 32 ∧ h i = nI (g i) ∧ p (g i) = nI i) ∧ ∀ c, c < 32 → p c = -1 ∨ ∃ i, i < n ∧ g i = c
def sk_sw (g : Nat → Nat) (i j : Nat) : Nat → Nat := fun k => if k = i then g j else if k = j then g i else g k
theorem sk_sw_i {g : Nat → Nat} {i j : Nat} : sk_sw g i j i = g j := if_pos rfl
theorem sk_sw_j {g : Nat → Nat} {i j : Nat} (h : j ≠ i) : sk_sw g i j j = g i := (if_neg h).trans (if_pos rfl)
theorem sk_sw_o {g : Nat → Nat} {i j k : Nat} (h1 : k ≠ i) (h2 : k ≠ j) : sk_sw g i j k = g k := (if_neg h1).trans (if_neg h2)
theorem sk_hs_inj {n : Nat} {h p : Nat → Int32} {g : Nat → Nat} (hn : n ≤ 32) (H : sk_hs n h p g) {i j : Nat} (hi : i < n) (hj : j < n) (e : g i = g j) : i = j := by
  have h1 := (H.1 i hi).2.2
  rw [e, (H.1 j hj).2.2] at h1
  exact (sk_inj (by omega) (by omega) h1).symm
theorem sk_hs_in {n : Nat} {h p : Nat → Int32} {g : Nat → Nat} (hn : n ≤ 32) (H : sk_hs n h p g) {i : Nat} (hi : i < n) : p (g i) ≠ -1 := by
  rw [(H.1 i hi).2.2]
  exact sk_ne (by omega)
theorem sk_hs_sw {n i j : Nat} {h p : Nat → Int32} {g : Nat → Nat} (hn : n ≤ 32) (H : sk_hs n h p g) (hi : i < n) (hj : j < n) (hij : i ≠ j) :
    sk_hs n (upd (upd h i (nI (g j))) j (nI (g i))) (upd (upd p (g j) (nI i)) (g i) (nI j)) (sk_sw g i j) ∧ ∀ c, c < 32 → (upd (upd p (g j) (nI i)) (g i) (nI j) c = -1 ↔ p c = -1) := by
  have inj : ∀ x y, x < n → y < n → g x = g y → x = y := fun x y hx hy e => sk_hs_inj hn H hx hy e
  refine ⟨⟨?_, ?_⟩, ?_⟩
  · intro k hk
    by_cases e1 : k = i
    · rw [e1, sk_sw_i]
      refine ⟨(H.1 j hj).1, ?_, ?_⟩
      · rw [pk_un hij, pk_us]
      · rw [pk_un (fun e => hij (inj _ _ hj hi e).symm), pk_us]
    · by_cases e2 : k = j
      · rw [e2, sk_sw_j (fun e => hij e.symm)]
        exact ⟨(H.1 i hi).1, pk_us, pk_us⟩
      · rw [sk_sw_o e1 e2]
        refine ⟨(H.1 k hk).1, ?_, ?_⟩
        · rw [pk_un e2, pk_un e1]
          exact (H.1 k hk).2.1
        · rw [pk_un (fun e => e1 (inj _ _ hk hi e)), pk_un (fun e => e2 (inj _ _ hk hj e))]
          exact (H.1 k hk).2.2
  · intro c hc
    rcases H.2 c hc with hp | ⟨m, hm, e⟩
    · left
      rw [pk_un (show c ≠ g i from fun e => sk_hs_in hn H hi (by rw [← e]; exact hp)), pk_un (show c ≠ g j from fun e => sk_hs_in hn H hj (by rw [← e]; exact hp))]
      exact hp
    · right
      by_cases e1 : m = i
      · exact ⟨j, hj, by rw [sk_sw_j (fun e => hij e.symm), ← e, e1]⟩
      · by_cases e2 : m = j
        · exact ⟨i, hi, by rw [sk_sw_i, ← e, e2]⟩
        · exact ⟨m, hm, by rw [sk_sw_o e1 e2, e]⟩
  · intro c hc
    by_cases e1 : c = g i
    · rw [e1, pk_us]
      exact ⟨fun z => absurd z (sk_ne (by omega)), fun z => absurd z (sk_hs_in hn H hi)⟩
    · rw [pk_un e1]
      by_cases e2 : c = g j
      · rw [e2, pk_us]
        exact ⟨fun z => absurd z (sk_ne (by omega)), fun z => absurd z (sk_hs_in hn H hj)⟩
      · rw [pk_un e2]
/-- the last place's cell leaves -/
theorem sk_hs_pop {k : Nat} {h p : Nat → Int32} {g : Nat → Nat} (hn : k + 1 ≤ 32) (H : sk_hs (k + 1) h p g) : sk_hs k h (upd p (g k) (-1)) g := by
  constructor
  · intro i hi
    have h1 := H.1 i (by omega)
    refine ⟨h1.1, h1.2.1, ?_⟩
    rw [pk_un (fun e => absurd (sk_hs_inj hn H (by omega) (by omega) e) (by omega))]
    exact h1.2.2
  · intro c hc
    by_cases e : c = g k
    · left
      rw [e, pk_us]
    · rw [pk_un e]
      rcases H.2 c hc with hp | ⟨i, hi, ei⟩
      · exact Or.inl hp
      · refine Or.inr ⟨i, ?_, ei⟩
        have : i ≠ k := fun z => e (by rw [← ei, z])
        omega
/-- the cell at place m leaves, the last one takes its place -/
theorem sk_hs_del {k m : Nat} {h p : Nat → Int32} {g : Nat → Nat} (hn : k + 1 ≤ 32) (hm : m < k) (H : sk_hs (k + 1) h p g) :
    sk_hs k (upd h m (nI (g k))) (upd (upd p (g m) (-1)) (g k) (nI m)) (va_up g m (g k)) ∧ upd (upd p (g m) (-1)) (g k) (nI m) (g m) = -1 ∧ ∀ d, d < 32 → d ≠ g m → (upd (upd p (g m) (-1)) (g k) (nI m) d = -1 ↔ p d = -1) := by
  have inj : ∀ x y, x < k + 1 → y < k + 1 → g x = g y → x = y := fun x y hx hy e => sk_hs_inj hn H hx hy e
  have hmk : g m ≠ g k := fun e => absurd (inj _ _ (by omega) (by omega) e) (by omega)
  refine ⟨⟨?_, ?_⟩, by rw [pk_un hmk, pk_us], ?_⟩
  · intro i hi
    have h1 := H.1 i (by omega)
    by_cases e : i = m
    · rw [e, sk_us]
      exact ⟨(H.1 k (by omega)).1, pk_us, pk_us⟩
    · rw [sk_un e]
      refine ⟨h1.1, by rw [pk_un e]; exact h1.2.1, ?_⟩
      rw [pk_un (fun z => absurd (inj _ _ (by omega) (by omega) z) (by omega)), pk_un (fun z => e (inj _ _ (by omega) (by omega) z))]
      exact h1.2.2
  · intro c hc
    by_cases e : c = g k
    · exact Or.inr ⟨m, hm, by rw [sk_us, e]⟩
    · rw [pk_un e]
      by_cases e2 : c = g m
      · left
        rw [e2, pk_us]
      · rw [pk_un e2]
        rcases H.2 c hc with hp | ⟨i, hi, ei⟩
        · exact Or.inl hp
        · have h1 : i ≠ k := fun z => e (by rw [← ei, z])
          have h2 : i ≠ m := fun z => e2 (by rw [← ei, z])
          exact Or.inr ⟨i, by omega, by rw [sk_un h2]; exact ei⟩
  · intro d hd hne
    by_cases e : d = g k
    · rw [e, pk_us]
      exact ⟨fun z => absurd z (sk_ne (by omega)), fun z => absurd z (sk_hs_in hn H (by omega))⟩
    · rw [pk_un e, pk_un hne]
theorem sk_hs_add {n c : Nat} {h p : Nat → Int32} {g : Nat → Nat} (hn : n < 32) (hc : c < 32) (hp : p c = -1) (H : sk_hs n h p g) : sk_hs (n + 1) (upd h n (nI c)) (upd p c (nI n)) (va_up g n c) := by
  constructor
  · intro i hi
    by_cases e : i = n
    · rw [e, sk_us]
      exact ⟨hc, pk_us, pk_us⟩
    · have h1 := H.1 i (by omega)
      rw [sk_un e]
      refine ⟨h1.1, by rw [pk_un e]; exact h1.2.1, ?_⟩
      rw [pk_un (fun z => sk_hs_in (by omega) H (show i < n by omega) (by rw [z]; exact hp))]
      exact h1.2.2
  · intro d hd
    by_cases e : d = c
    · exact Or.inr ⟨n, by omega, by rw [sk_us, e]⟩
    · rw [pk_un e]
      rcases H.2 d hd with z | ⟨i, hi, ei⟩
      · exact Or.inl z
      · exact Or.inr ⟨i, by omega, by rw [sk_un (by omega)]; exact ei⟩
theorem sk_tab (g : Nat → Nat) : ∀ n, (∀ i j, i < n → j < n → g i = g j → i = j) → ∃ l : List Nat, l.Nodup ∧ l.length = n ∧ ∀ x, x ∈ l → ∃ i, i < n ∧ g i = x := by
  intro n
  induction n with
  | zero => exact fun _ => ⟨[], List.nodup_nil, rfl, fun x hx => absurd hx List.not_mem_nil⟩
  | succ n ih =>
    intro hi
    obtain ⟨l, h1, h2, h3⟩ := ih (fun i j a b e => hi i j (by omega) (by omega) e)
    refine ⟨g n :: l, List.nodup_cons.mpr ⟨fun hm => ?_, h1⟩, by rw [List.length_cons, h2], fun x hx => ?_⟩
    · obtain ⟨i, a, b⟩ := h3 _ hm
      exact absurd (hi i n (by omega) (by omega) b) (by omega)
    · rcases List.mem_cons.mp hx with e | e
      · exact ⟨n, by omega, e.symm⟩
      · obtain ⟨i, a, b⟩ := h3 _ e
        exact ⟨i, by omega, b⟩
theorem sk_hs_room {n c : Nat} {h p : Nat → Int32} {g : Nat → Nat} (hn : n ≤ 32) (hc : c < 32) (hp : p c = -1) (H : sk_hs n h p g) : n < 32 := by
  obtain ⟨l, h1, h2, h3⟩ := sk_tab g n (fun i j a b e => sk_hs_inj hn H a b e)
  have h4 := sk_pig 32 (c :: l) (List.nodup_cons.mpr ⟨fun hm => ?_, h1⟩) (fun x hx => ?_)
  · rw [List.length_cons, h2] at h4
    omega
  · obtain ⟨i, a, b⟩ := h3 _ hm
    exact sk_hs_in hn H a (by rw [b]; exact hp)
  · rcases List.mem_cons.mp hx with e | e
    · rw [e]; exact hc
    · obtain ⟨i, a, b⟩ := h3 _ e
      rw [← b]
      exact (H.1 i a).1
/-- the ends by the places -/
def sk_v (a8 : Nat → Int64) (g : Nat → Nat) : Nat → Int := fun k => (a8 (g k)).toInt
/-- the heap as the class keeps it -/
def sk_Hr (n : Nat) (a8 : Nat → Int64) (a16 a17 : Nat → Int32) : Prop := n ≤ 32 ∧ ∃ g, sk_hs n a16 a17 g ∧ sk_oO n (sk_v a8 g)
end
section
/-! the order of use: a doubly linked row a sort -/
def sk_R (U : Nat → List Nat) (a11 a12 a13 a14 : Nat → Int32) : Prop := (∀ s, s < 3 → sk_ds a13 a14 (-1) (a11 s) (U s) (a12 s) (-1) ∧ (U s).Nodup) ∧ ∀ s t c, s < 3 → t < 3 → c ∈ U s → c ∈ U t → s = t
theorem sk_unhang38 {post : St1 → Prop} {cl : Int64} {nu hs : Int32} {a1 a2 a3 a4 a5 a6 a7 : Nat → Int32} {a8 : Nat → Int64} {a9 a10 a11 a12 a13 a14 a15 a16 a17 : Nat → Int32} {s : Nat} {p m x : Int32} {l1 l2 : List Nat} (hs3 : s < 3) (h1 : sk_ds a13 a14 (-1) (a11 s) l1 p m) (h2 : sk_ds a13 a14 x m l2 (a12 s) (-1)) (hn : (l1 ++ l2).Nodup)
    (H : ∀ (a12' : Nat → Int32) (a13' : Nat → Int32), sk_ds a13' a14 (-1) (a11 s) (l1 ++ l2) (a12' s) (-1) → (∀ j, j ≠ s → a12' j = a12 j) → (∀ j, j ∉ l2 → a13' j = a13 j) → post (cl, nu, hs, a1, a2, a3, a4, a5, a6, a7, a8, a9, a10, a11, a12', a13', a14, a15, a16, a17)) :
    wX_unhang_38 post (nI s) p m cl nu hs a1 a2 a3 a4 a5 a6 a7 a8 a9 a10 a11 a12 a13 a14 a15 a16 a17 := by
  have es : (nI s).toNatClampNeg = s := nI_clamp (by omega)
  cases l2 with
  | nil =>
    obtain ⟨e1, e2⟩ := h2
    subst e2
    unfold wX_unhang_38
    rw [es]
    refine br_t (by decide) ⟨vp_in_nI hs3 (by omega), nm_e (H _ _ ?_ (fun j hj => pk_un hj) (fun _ _ => rfl))⟩
    rw [List.append_nil, pk_us]
    exact h1
  | cons e l3 =>
    have he : e < 32 := h2.2.1
    have e1 : m = nI e := h2.1
    subst e1
    have ee : (nI e).toNatClampNeg = e := nI_clamp (by omega)
    have hN := List.nodup_append.mp hn
    have hout : ∀ j, j ∈ l1 → j ≠ e := fun j hj z => hN.2.2 j hj e List.mem_cons_self z
    unfold wX_unhang_38
    rw [ee]
    refine br_f (nI_pos (by omega)) ⟨vp_in_nI he (by omega), nm_e (H _ _ ?_ (fun _ _ => rfl) (fun j hj => pk_un (fun z => hj (by rw [z]; exact List.mem_cons_self))))⟩
    exact sk_ds_app.mpr ⟨p, nI e, sk_ds_ext (fun j hj => pk_un (hout j hj)) (fun _ _ => rfl) h1, sk_ds_entry p (List.nodup_cons.mp hN.2.1).1 h2⟩
theorem sk_unhang {post : St1 → Prop} {cl : Int64} {nu hs : Int32} {a1 a2 a3 a4 a5 a6 a7 : Nat → Int32} {a8 : Nat → Int64} {a9 a10 a11 a12 a13 a14 a15 a16 a17 : Nat → Int32} {U : Nat → List Nat} {s c : Nat} (hR : sk_R U a11 a12 a13 a14) (hs3 : s < 3) (hc : c ∈ U s)
    (H : ∀ (a11' : Nat → Int32) (a12' : Nat → Int32) (a13' : Nat → Int32) (a14' : Nat → Int32), sk_R (va_up U s ((U s).erase c)) a11' a12' a13' a14' → post (cl, nu, hs, a1, a2, a3, a4, a5, a6, a7, a8, a9, a10, a11', a12', a13', a14', a15, a16, a17)) : wpX_unhang post (cl, nu, hs, a1, a2, a3, a4, a5, a6, a7, a8, a9, a10, a11, a12, a13, a14, a15, a16, a17) (nI c) (nI s) := by
  obtain ⟨l1, l2, hn1, e, ee⟩ := List.exists_erase_eq hc
  have hN := (hR.1 s hs3).2
  have hd := (hR.1 s hs3).1
  rw [e] at hN hd
  obtain ⟨hc32, hn, hcase⟩ := sk_ds_front hN hd
  have sub : ∀ t x, x ∈ va_up U s ((U s).erase c) t → x ∈ U t := by
    intro t x hx
    by_cases et : t = s
    · rw [et, sk_us] at hx
      rw [et]
      exact List.mem_of_mem_erase hx
    · rw [sk_un et] at hx
      exact hx
  have fin : ∀ (a11' : Nat → Int32) (a12' : Nat → Int32) (a13' : Nat → Int32) (a14' : Nat → Int32), sk_ds a13' a14' (-1) (a11' s) (l1 ++ l2) (a12' s) (-1) → (∀ j, j ≠ s → a11' j = a11 j) → (∀ j, j ≠ s → a12' j = a12 j) → (∀ j, j ∉ l1 ++ l2 → a13' j = a13 j) → (∀ j, j ∉ l1 ++ l2 → a14' j = a14 j) → post (cl, nu, hs, a1, a2, a3, a4, a5, a6, a7, a8, a9, a10, a11', a12', a13', a14', a15, a16, a17) := by
    intro b11 b12 b13 b14 g g1 g2 g3 g4
    refine H b11 b12 b13 b14 ⟨fun t ht => ?_, fun t t' x ht ht' hx hx' => hR.2 t t' x ht ht' (sub t x hx) (sub t' x hx')⟩
    by_cases et : t = s
    · rw [et, sk_us, ee]
      exact ⟨g, hn⟩
    · rw [sk_un et, g1 t et, g2 t et]
      have out : ∀ j, j ∈ U t → j ∉ l1 ++ l2 := fun j hj hm => et (hR.2 t s j ht hs3 hj (List.mem_of_mem_erase (by rw [ee]; exact hm)))
      exact ⟨sk_ds_ext (fun j hj => g3 j (out j hj)) (fun j hj => g4 j (out j hj)) (hR.1 t ht).1, (hR.1 t ht).2⟩
  have ec : (nI c).toNatClampNeg = c := nI_clamp (by omega)
  have es : (nI s).toNatClampNeg = s := nI_clamp (by omega)
  unfold wpX_unhang
  dsimp only
  rw [ec, es]
  refine ⟨vp_in_nI hc32 (by omega), nm_e ⟨vp_in_nI hc32 (by omega), nm_e ?_⟩⟩
  rcases hcase with ⟨e1, e2, e3⟩ | ⟨d, hd32, hdl, e2, e3, e4⟩
  · subst e1
    rw [e2]
    refine br_t (by decide) ⟨vp_in_nI hs3 (by omega), nm_e ?_⟩
    exact sk_unhang38 (l1 := []) hs3 ⟨rfl, pk_us⟩ e3 hn (fun b12 b13 q1 q2 q3 => fin _ b12 b13 a14 q1 (fun j hj => pk_un hj) q2 (fun j hj => q3 j hj) (fun _ _ => rfl))
  · rw [e2, nI_clamp (show d < 2 ^ 31 by omega)]
    refine br_f (nI_pos (by omega)) ⟨vp_in_nI hd32 (by omega), nm_e ?_⟩
    exact sk_unhang38 hs3 e3 e4 hn (fun b12 b13 q1 q2 q3 => fin a11 b12 b13 _ q1 (fun _ _ => rfl) q2 (fun j hj => q3 j (fun hm => hj (List.mem_append.mpr (Or.inr hm)))) (fun j hj => pk_un (fun z => hj (by rw [z]; exact List.mem_append.mpr (Or.inl hdl)))))
theorem sk_hangLast {post : St1 → Prop} {cl : Int64} {nu hs : Int32} {a1 a2 a3 a4 a5 a6 a7 : Nat → Int32} {a8 : Nat → Int64} {a9 a10 a11 a12 a13 a14 a15 a16 a17 : Nat → Int32} {U : Nat → List Nat} {s c : Nat} (hR : sk_R U a11 a12 a13 a14) (hs3 : s < 3) (hc : c < 32) (hout : ∀ t, t < 3 → c ∉ U t)
    (H : ∀ (a11' : Nat → Int32) (a12' : Nat → Int32) (a13' : Nat → Int32) (a14' : Nat → Int32), sk_R (va_up U s (U s ++ [c])) a11' a12' a13' a14' → post (cl, nu, hs, a1, a2, a3, a4, a5, a6, a7, a8, a9, a10, a11', a12', a13', a14', a15, a16, a17)) : wpX_hangLast post (cl, nu, hs, a1, a2, a3, a4, a5, a6, a7, a8, a9, a10, a11, a12, a13, a14, a15, a16, a17) (nI c) (nI s) := by
  have hN := (hR.1 s hs3).2
  have hd := (hR.1 s hs3).1
  have hcs := hout s hs3
  have sub : ∀ t x, t < 3 → x ∈ va_up U s (U s ++ [c]) t → x ∈ U t ∨ (t = s ∧ x = c) := by
    intro t x ht hx
    by_cases et : t = s
    · rw [et, sk_us] at hx
      rcases List.mem_append.mp hx with z | z
      · exact Or.inl (by rw [et]; exact z)
      · exact Or.inr ⟨et, List.mem_singleton.mp z⟩
    · rw [sk_un et] at hx
      exact Or.inl hx
  have hn : (U s ++ [c]).Nodup := List.nodup_append.mpr ⟨hN, List.nodup_cons.mpr ⟨List.not_mem_nil, List.nodup_nil⟩, fun a ha b hb z => hcs (by rw [← List.mem_singleton.mp hb, ← z]; exact ha)⟩
  have fin : ∀ (a11' : Nat → Int32) (a12' : Nat → Int32) (a13' : Nat → Int32) (a14' : Nat → Int32), sk_ds a13' a14' (-1) (a11' s) (U s ++ [c]) (a12' s) (-1) → (∀ j, j ≠ s → a11' j = a11 j) → (∀ j, j ≠ s → a12' j = a12 j) → (∀ j, j ∉ U s → j ≠ c → a13' j = a13 j) → (∀ j, j ∉ U s → j ≠ c → a14' j = a14 j) → post (cl, nu, hs, a1, a2, a3, a4, a5, a6, a7, a8, a9, a10, a11', a12', a13', a14', a15, a16, a17) := by
    intro b11 b12 b13 b14 g g1 g2 g3 g4
    refine H b11 b12 b13 b14 ⟨fun t ht => ?_, fun t t' x ht ht' hx hx' => ?_⟩
    · by_cases et : t = s
      · rw [et, sk_us]
        exact ⟨g, hn⟩
      · rw [sk_un et, g1 t et, g2 t et]
        have o1 : ∀ j, j ∈ U t → j ∉ U s := fun j hj hm => et (hR.2 t s j ht hs3 hj hm)
        have o2 : ∀ j, j ∈ U t → j ≠ c := fun j hj z => hout t ht (by rw [← z]; exact hj)
        exact ⟨sk_ds_ext (fun j hj => g3 j (o1 j hj) (o2 j hj)) (fun j hj => g4 j (o1 j hj) (o2 j hj)) (hR.1 t ht).1, (hR.1 t ht).2⟩
    · rcases sub t x ht hx with z | ⟨z1, z2⟩
      · rcases sub t' x ht' hx' with y | ⟨y1, y2⟩
        · exact hR.2 t t' x ht ht' z y
        · exact absurd (by rw [← y2]; exact z) (hout t ht)
      · rcases sub t' x ht' hx' with y | ⟨y1, y2⟩
        · exact absurd (by rw [← z2]; exact y) (hout t' ht')
        · rw [z1, y1]
  have ec : (nI c).toNatClampNeg = c := nI_clamp (by omega)
  have es : (nI s).toNatClampNeg = s := nI_clamp (by omega)
  unfold wpX_hangLast
  dsimp only
  rw [ec, es]
  refine ⟨vp_in_nI hs3 (by omega), nm_e ⟨vp_in_nI hc (by omega), nm_e ⟨vp_in_nI hc (by omega), nm_e ⟨vp_in_nI hs3 (by omega), nm_e ?_⟩⟩⟩⟩
  rcases sk_last (U s) with e | ⟨l0, d, e⟩
  · rw [e] at hd fin
    have e1 : a12 s = -1 := hd.1
    rw [e1]
    refine br_t (by decide) ⟨vp_in_nI hs3 (by omega), nm_e (fin _ _ _ _ ?_ (fun j hj => pk_un hj) (fun j hj => pk_un hj) (fun j _ hj => pk_un hj) (fun j _ hj => pk_un hj))⟩
    rw [pk_us, pk_us]
    exact ⟨rfl, hc, pk_us, rfl, pk_us⟩
  · have hdU : d ∈ U s := by rw [e]; exact List.mem_append.mpr (Or.inr (List.mem_singleton.mpr rfl))
    have hcd : c ≠ d := fun z => hcs (by rw [z]; exact hdU)
    rw [e] at hd fin hN hcs
    obtain ⟨e1, hd32⟩ := sk_ds_end hd
    have hdl0 : d ∉ l0 := fun hm => (List.nodup_append.mp hN).2.2 d hm d (List.mem_singleton.mpr rfl) rfl
    rw [e1, nI_clamp (show d < 2 ^ 31 by omega)]
    refine br_f (nI_pos (by omega)) ⟨vp_in_nI hd32 (by omega), nm_e (fin a11 _ _ _ ?_ (fun _ _ => rfl) (fun j hj => pk_un hj) (fun j _ hj => pk_un hj) (fun j hj1 hj => ?_))⟩
    · rw [pk_us]
      have g1 : sk_ds (upd a13 c (nI d)) (upd a14 c (-1)) (-1) (a11 s) (l0 ++ [d]) (a12 s) (-1) := sk_ds_ext (fun j hj => pk_un (fun z => hcs (by rw [← z]; exact hj))) (fun j hj => pk_un (fun z => hcs (by rw [← z]; exact hj))) hd
      have g2 := sk_ds_exit (nI c) hdl0 g1
      refine sk_ds_app.mpr ⟨_, _, g2, rfl, hc, ?_, rfl, ?_⟩
      · rw [pk_us, e1]
      · rw [pk_un hcd, pk_us]
    · rw [pk_un (fun z => hj1 (by rw [z]; exact List.mem_append.mpr (Or.inr (List.mem_singleton.mpr rfl)))), pk_un hj]
/-- use: c becomes the last of its row -/
theorem sk_use {post : St1 → Prop} {cl : Int64} {nu hs : Int32} {a1 a2 a3 a4 a5 a6 a7 : Nat → Int32} {a8 : Nat → Int64} {a9 a10 a11 a12 a13 a14 a15 a16 a17 : Nat → Int32} {U : Nat → List Nat} {s c : Nat} (hR : sk_R U a11 a12 a13 a14) (hs3 : s < 3) (hc : c ∈ U s) (h1 : a1 (c / 4) = nI s)
    (H : ∀ (a11' : Nat → Int32) (a12' : Nat → Int32) (a13' : Nat → Int32) (a14' : Nat → Int32), sk_R (va_up U s ((U s).erase c ++ [c])) a11' a12' a13' a14' → post (cl, nu, hs, a1, a2, a3, a4, a5, a6, a7, a8, a9, a10, a11', a12', a13', a14', a15, a16, a17)) : wpX_use post (cl, nu, hs, a1, a2, a3, a4, a5, a6, a7, a8, a9, a10, a11, a12, a13, a14, a15, a16, a17) (nI c) := by
  have hc32 : c < 32 := sk_ds_lt (hR.1 s hs3).1 c hc
  unfold wpX_use
  dsimp only
  rw [sk_shr hc32, nI_clamp (show c / 4 < 2 ^ 31 by omega), h1]
  refine ⟨vp_in_nI (by omega) (by omega), nm_e ?_⟩
  refine sk_unhang hR hs3 hc (fun b11 b12 b13 b14 hR' => ?_)
  refine sk_hangLast hR' hs3 hc32 (fun t ht hm => ?_) (fun c11 c12 c13 c14 hR2 => ?_)
  · by_cases et : t = s
    · rw [et, sk_us] at hm
      exact (hR.1 s hs3).2.not_mem_erase hm
    · rw [sk_un et] at hm
      exact et (hR.2 t s c ht hs3 hm hc)
  · refine H c11 c12 c13 c14 ?_
    rw [sk_us] at hR2
    have e : va_up (va_up U s ((U s).erase c)) s ((U s).erase c ++ [c]) = va_up U s ((U s).erase c ++ [c]) := bx_uu _ _ _ _
    rw [e] at hR2
    exact hR2
end
section
/-! the table of keys: a chain a bucket -/
def sk_C (a4 a5 a9 a10 : Nat → Int32) : Prop := ∃ C : Nat → List Nat, ∀ b, b < 16 → sk_ch a10 (a9 b) (C b) ∧ (C b).Nodup ∧ ∀ c, c ∈ C b ↔ c < 32 ∧ a4 c = 1 ∧ (a5 c * 7) &&& 15 = nI b
/-- items: their keys and sorts; pages -/
def sk_I (a1 a4 a5 : Nat → Int32) : Prop := (∀ c, c < 32 → a4 c = 1 → (∃ k, k < 256 ∧ a5 c = nI k) ∧ ∃ s, s < 3 ∧ a1 (c / 4) = nI s) ∧ (∀ c d, c < 32 → d < 32 → a4 c = 1 → a4 d = 1 → a5 c = a5 d → c = d) ∧ ∀ p, p < 8 → a1 p = -1 ∨ ∃ s, s < 3 ∧ a1 p = nI s
theorem sk_find28 {post : Int32 → Prop} {cl : Int64} {nu hs : Int32} {a1 a2 a3 a4 a5 a6 a7 : Nat → Int32} {a8 : Nat → Int64} {a9 a10 a11 a12 a13 a14 a15 a16 a17 : Nat → Int32} {x1 : Int32} : ∀ (l : List Nat) (x : Int32) (k f : Nat), sk_ch a10 x l → l.length + k ≤ 32 → l.length < f → (∀ c, c ∈ l → a5 c = x1 → post (nI c)) → ((∀ c, c ∈ l → a5 c ≠ x1) → post (-1)) →
    wX_find_28 post x1 cl nu hs a1 a2 a3 a4 a5 a6 a7 a8 a9 a10 a11 a12 a13 a14 a15 a16 a17 f x (nI k) := by
  intro l
  induction l with
  | nil =>
    intro x k f h hk hf _ hN
    obtain ⟨f', rfl⟩ : ∃ f', f = f' + 1 := ⟨f - 1, by omega⟩
    have e : x = -1 := h
    subst e
    have hp := hN (fun c hc => absurd hc List.not_mem_nil)
    exact ⟨fun _ => hp, fun _ => ⟨fun _ => hp, fun z => absurd sk_m1 z⟩⟩
  | cons c l ih =>
    intro x k f h hk hf hF hN
    obtain ⟨f', rfl⟩ : ∃ f', f = f' + 1 := ⟨f - 1, by omega⟩
    have e : x = nI c := h.1
    have hc : c < 32 := h.2.1
    subst e
    rw [List.length_cons] at hk hf
    have ec : (nI c).toNatClampNeg = c := nI_clamp (by omega)
    refine pk_le 32 k (fun z => absurd z (by omega)) (fun _ => br_f (nI_pos (by omega)) ⟨vp_in_nI hc (by omega), ?_⟩)
    by_cases e1 : a5 c = x1
    · exact br_t (by rw [ec]; exact e1) (hF c List.mem_cons_self e1)
    · refine br_f (by rw [ec]; exact e1) ⟨vp_in_nI hc (by omega), nm_r (e' := a10 c) (by rw [ec]) (nm_r (nI_1 k) ?_)⟩
      refine ih (a10 c) (k + 1) f' h.2.2 (by omega) (by omega) (fun d hd => hF d (List.mem_cons_of_mem c hd)) (fun hA => hN (fun d hd => ?_))
      rcases List.mem_cons.mp hd with z | z
      · rw [z]; exact e1
      · exact hA d z
theorem sk_find {post : Int32 → Prop} {cl : Int64} {nu hs : Int32} {a1 a2 a3 a4 a5 a6 a7 : Nat → Int32} {a8 : Nat → Int64} {a9 a10 a11 a12 a13 a14 a15 a16 a17 : Nat → Int32} {key : Int32} (hC : sk_C a4 a5 a9 a10) (hI : sk_I a1 a4 a5) (hF : ∀ c, c < 32 → a4 c = 1 → a5 c = key → post (nI c)) (hN : (∀ c, c < 32 → a4 c = 1 → a5 c ≠ key) → post (-1)) :
    wpX_find post (cl, nu, hs, a1, a2, a3, a4, a5, a6, a7, a8, a9, a10, a11, a12, a13, a14, a15, a16, a17) key := by
  obtain ⟨C, hC⟩ := hC
  unfold wpX_find
  dsimp only
  refine br_c (fun z => hN (fun c hc h4 e => ?_)) (fun z => br_c (fun z2 => ?_) (fun z2 => hN (fun c hc h4 e => ?_)))
  · obtain ⟨k, hk, ek⟩ := (hI.1 c hc h4).1
    rw [← e, ek] at z
    exact nI_pos (by omega) z
  · obtain ⟨b, hb, eb⟩ := pk_andE (key * 7) (m := 15) 4 (by decide)
    have hb' : b < 16 := hb
    rw [eb, nI_clamp (show b < 2 ^ 31 by omega)]
    obtain ⟨g1, g2, g3⟩ := hC b hb'
    have hlen := sk_ch_len g1 g2
    refine ⟨vp_in_nI hb' (by omega), nm_e ⟨33, ?_⟩⟩
    refine sk_find28 (C b) (a9 b) 0 33 g1 (by omega) (by omega) (fun c hc e => ?_) (fun hA => hN (fun c hc h4 e => ?_))
    · have g := (g3 c).mp hc
      exact hF c g.1 g.2.1 e
    · exact hA c ((g3 c).mpr ⟨hc, h4, by rw [e]; exact eb⟩) e
  · obtain ⟨k, hk, ek⟩ := (hI.1 c hc h4).1
    rw [← e, ek] at z2
    exact z2 (nI_le (b := 255) (by omega) (by omega))
theorem sk_unchain46 {post : St1 → Prop} {cl : Int64} {nu hs : Int32} {a1 a2 a3 a4 a5 a6 a7 : Nat → Int32} {a8 : Nat → Int64} {a9 a10 a11 a12 a13 a14 a15 a16 a17 : Nat → Int32} {c : Nat} (hc : c < 32) : ∀ (l : List Nat) (d k f : Nat), sk_ch a10 (nI d) (d :: l) → (d :: l).Nodup → c ∈ l → l.length + k ≤ 32 → l.length ≤ f →
    (∀ (a10' : Nat → Int32), sk_ch a10' (nI d) (d :: l.erase c) → (∀ j, j ∉ d :: l → a10' j = a10 j) → post (cl, nu, hs, a1, a2, a3, a4, a5, a6, a7, a8, a9, a10', a11, a12, a13, a14, a15, a16, a17)) → wX_unchain_46 post (nI c) cl nu hs a1 a2 a3 a4 a5 a6 a7 a8 a9 a10 a11 a12 a13 a14 a15 a16 a17 f (nI d) (nI k) := by
  have ec : (nI c).toNatClampNeg = c := nI_clamp (by omega)
  intro l
  induction l with
  | nil => intro d k f _ _ hm; exact absurd hm List.not_mem_nil
  | cons e l ih =>
    intro d k f h hn hm hk hf H
    rw [List.length_cons] at hk hf
    obtain ⟨f', rfl⟩ : ∃ f', f = f' + 1 := ⟨f - 1, by omega⟩
    have hd : d < 32 := h.2.1
    have he : a10 d = nI e := h.2.2.1
    have he32 : e < 32 := h.2.2.2.1
    have ed : (nI d).toNatClampNeg = d := nI_clamp (by omega)
    have hn1 := List.nodup_cons.mp hn
    have hn2 := List.nodup_cons.mp hn1.2
    refine pk_le 32 k (fun z => absurd z (by omega)) (fun _ => ⟨vp_in_nI hd (by omega), ?_⟩)
    by_cases e1 : e = c
    · refine br_t (by rw [ed, he, e1]) ?_
      unfold wX_unchain_76
      rw [ed, ec]
      refine ⟨vp_in_nI hc (by omega), vp_in_nI hd (by omega), nm_e (H _ ?_ (fun j hj => pk_un (fun z => hj (by rw [z]; exact List.mem_cons_self))))⟩
      rw [e1, List.erase_cons_head]
      refine ⟨rfl, hd, ?_⟩
      rw [pk_us]
      have h3 := h.2.2.2.2
      rw [e1] at h3
      exact sk_ch_ext (fun j hj => pk_un (fun z => hn1.1 (by rw [← z]; exact List.mem_cons_of_mem e hj))) h3
    · have hm' : c ∈ l := by
        rcases List.mem_cons.mp hm with z | z
        · exact absurd z.symm e1
        · exact z
      refine br_f (by rw [ed, he]; exact fun z => e1 (sk_inj he32 hc z)) ⟨vp_in_nI hd (by omega), nm_r (e' := nI e) (by rw [ed, he]) (nm_r (nI_1 k) ?_)⟩
      refine ih e (k + 1) f' ⟨rfl, he32, h.2.2.2.2⟩ hn1.2 hm' (by omega) (by omega) (fun b10 g1 g2 => H b10 ?_ (fun j hj => g2 j (fun z => hj (List.mem_cons_of_mem d z))))
      rw [List.erase_cons_tail (by simpa using e1)]
      refine ⟨rfl, hd, ?_⟩
      rw [g2 d hn1.1, he]
      exact g1
theorem sk_unchain {post : St1 → Prop} {cl : Int64} {nu hs : Int32} {a1 a2 a3 a4 a5 a6 a7 : Nat → Int32} {a8 : Nat → Int64} {a9 a10 a11 a12 a13 a14 a15 a16 a17 : Nat → Int32} {c : Nat} (hC : sk_C a4 a5 a9 a10) (hc : c < 32) (h4 : a4 c = 1) (H : ∀ (a9' : Nat → Int32) (a10' : Nat → Int32), sk_C (upd a4 c 0) a5 a9' a10' → post (cl, nu, hs, a1, a2, a3, a4, a5, a6, a7, a8, a9', a10', a11, a12, a13, a14, a15, a16, a17)) : wpX_unchain post (cl, nu, hs, a1, a2, a3, a4, a5, a6, a7, a8, a9, a10, a11, a12, a13, a14, a15, a16, a17) (nI c) := by
  obtain ⟨C, hC⟩ := hC
  obtain ⟨b, hb, eb⟩ := pk_andE (a5 c * 7) (m := 15) 4 (by decide)
  have hb' : b < 16 := hb
  obtain ⟨g1, g2, g3⟩ := hC b hb'
  have hcb : c ∈ C b := (g3 c).mpr ⟨hc, h4, eb⟩
  have ec : (nI c).toNatClampNeg = c := nI_clamp (by omega)
  have ebb : (nI b).toNatClampNeg = b := nI_clamp (by omega)
  have fin : ∀ (a9' : Nat → Int32) (a10' : Nat → Int32), sk_ch a10' (a9' b) ((C b).erase c) → (∀ j, j ≠ b → a9' j = a9 j) → (∀ j, j ∉ C b → a10' j = a10 j) → post (cl, nu, hs, a1, a2, a3, a4, a5, a6, a7, a8, a9', a10', a11, a12, a13, a14, a15, a16, a17) := by
    intro b9 b10 q1 q2 q3
    refine H b9 b10 ⟨va_up C b ((C b).erase c), fun t ht => ?_⟩
    obtain ⟨t1, t2, t3⟩ := hC t ht
    by_cases et : t = b
    · rw [et, sk_us]
      refine ⟨q1, g2.erase c, fun x => ?_⟩
      rw [g2.mem_erase_iff, g3 x, sk_off]
      exact ⟨fun z => ⟨z.2.1, ⟨z.1, z.2.2.1⟩, z.2.2.2⟩, fun z => ⟨z.2.1.1, z.1, z.2.1.2, z.2.2⟩⟩
    · rw [sk_un et, q2 t et]
      have out : ∀ j, j ∈ C t → j ∉ C b := fun j hj hm => et ((nI_eq (by omega) (by omega)).mp (((t3 j).mp hj).2.2.symm.trans ((g3 j).mp hm).2.2))
      refine ⟨sk_ch_ext (fun j hj => q3 j (out j hj)) t1, t2, fun x => ?_⟩
      rw [sk_off]
      constructor
      · intro hx
        have z := (t3 x).mp hx
        exact ⟨z.1, ⟨fun e => out x hx (by rw [e]; exact hcb), z.2.1⟩, z.2.2⟩
      · intro z
        exact (t3 x).mpr ⟨z.1, z.2.1.2, z.2.2⟩
  unfold wpX_unchain
  dsimp only
  rw [ec, eb]
  refine ⟨vp_in_nI hc (by omega), nm_e ?_⟩
  rw [ebb]
  refine ⟨vp_in_nI hb' (by omega), ?_⟩
  cases hl : C b with
  | nil => rw [hl] at hcb; exact absurd hcb List.not_mem_nil
  | cons d l =>
    rw [hl] at g1 g2 hcb fin
    have e9 : a9 b = nI d := g1.1
    have hd : d < 32 := g1.2.1
    by_cases e1 : d = c
    · refine br_t (by rw [e9, e1]) ⟨vp_in_nI hc (by omega), vp_in_nI hb' (by omega), nm_e (fin _ _ ?_ (fun j hj => pk_un hj) (fun _ _ => rfl))⟩
      rw [pk_us, e1, List.erase_cons_head]
      have g := g1.2.2
      rw [e1] at g
      exact g
    · refine br_f (by rw [e9]; exact fun z => e1 (sk_inj hd hc z)) ⟨vp_in_nI hb' (by omega), nm_r e9 ⟨33, ?_⟩⟩
      have hm' : c ∈ l := by
        rcases List.mem_cons.mp hcb with z | z
        · exact absurd z.symm e1
        · exact z
      have hlen := sk_ch_len g1 g2
      rw [List.length_cons] at hlen
      rw [e9] at g1
      refine sk_unchain46 hc l d 0 33 g1 g2 hm' (by omega) (by omega) (fun b10 q1 q2 => fin a9 b10 ?_ (fun _ _ => rfl) q2)
      rw [List.erase_cons_tail (by simpa using e1), e9]
      exact q1
end
section
theorem sk_par {m : Nat} (h0 : 0 < m) (h : m < 32) : (nI m - 1) / 2 = nI ((m - 1) / 2) := by
  obtain ⟨k, rfl⟩ : ∃ k, m = k + 1 := ⟨m - 1, by omega⟩
  rw [nI_pred]
  exact pk_div (d := 2) (by omega) (by omega) (by omega)
theorem sk_put {post : St1 → Prop} {cl : Int64} {nu hs : Int32} {a1 a2 a3 a4 a5 a6 a7 : Nat → Int32} {a8 : Nat → Int64} {a9 a10 a11 a12 a13 a14 a15 a16 a17 : Nat → Int32} {i c : Nat} (hi : i < 32) (hc : c < 32) (H : post (cl, nu, hs, a1, a2, a3, a4, a5, a6, a7, a8, a9, a10, a11, a12, a13, a14, a15, upd a16 i (nI c), upd a17 c (nI i))) : wpX_put post (cl, nu, hs, a1, a2, a3, a4, a5, a6, a7, a8, a9, a10, a11, a12, a13, a14, a15, a16, a17) (nI i) (nI c) := by
  unfold wpX_put
  dsimp only
  refine ⟨vp_in_nI hi (by omega), nm_r (e' := upd a16 i (nI c)) (by rw [nI_clamp (by omega)]) ⟨vp_in_nI hc (by omega), nm_r (e' := upd a17 c (nI i)) (by rw [nI_clamp (by omega)]) H⟩⟩
theorem sk_rise12 {post : St1 → Prop} {cl : Int64} {nu : Int32} {hs : Int32} {a1 : Nat → Int32} {a2 : Nat → Int32} {a3 : Nat → Int32} {a4 : Nat → Int32} {a5 : Nat → Int32} {a6 : Nat → Int32} {a7 : Nat → Int32} {a8 : Nat → Int64} {a9 : Nat → Int32} {a10 : Nat → Int32} {a11 : Nat → Int32} {a12 : Nat → Int32} {a13 : Nat → Int32} {a14 : Nat → Int32} {a15 : Nat → Int32} {n m0 c : Nat} (hn : n ≤ 32) (hc : c < 32) : ∀ (f k m : Nat) (a16 a17 : Nat → Int32) (g : Nat → Nat), f + k = 6 → m + 1 < 2 ^ f → m < n → g m = c → sk_hs n a16 a17 g →
    (m = m0 ∨ sk_oR n (sk_v a8 g) m) → sk_oQ n (sk_v a8 g) m →
    (∀ (a16' a17' : Nat → Int32) (g' : Nat → Nat), sk_hs n a16' a17' g' → sk_oS n (sk_v a8 g') m0 → (∀ d, d < 32 → (a17' d = -1 ↔ a17 d = -1)) → post (cl, nu, hs, a1, a2, a3, a4, a5, a6, a7, a8, a9, a10, a11, a12, a13, a14, a15, a16', a17')) → wX_rise_12 post (nI c) (f + 1) (nI m) (nI k) cl nu hs a1 a2 a3 a4 a5 a6 a7 a8 a9 a10 a11 a12 a13 a14 a15 a16 a17 := by
  have ec : (nI c).toNatClampNeg = c := nI_clamp (by omega)
  intro f
  induction f with
  | zero => intro k m a16 a17 g _ h; exact absurd h (by simp)
  | succ f ih =>
    intro k m a16 a17 g hk hm hmn hgm hh hJ hQ H
    have hx : (m = 0 ∨ sk_v a8 g ((m - 1) / 2) ≤ sk_v a8 g m) → post (cl, nu, hs, a1, a2, a3, a4, a5, a6, a7, a8, a9, a10, a11, a12, a13, a14, a15, a16, a17) := by
      intro hx
      refine H a16 a17 g hh ?_ (fun _ _ => Iff.rfl)
      rcases hJ with e | hR
      · rw [← e]; exact sk_Q_exit hQ hx
      · exact sk_O_S m0 (sk_R_exit hR hx)
    refine pk_le 6 k (fun z => absurd z (by omega)) (fun _ => pk_le m 0 (fun z => hx (Or.inl (by omega))) (fun z => ?_))
    have hp : (m - 1) / 2 < m := by omega
    obtain ⟨p1, p2, p3⟩ := hh.1 ((m - 1) / 2) (by omega)
    rw [sk_par z (by omega), nI_clamp (show (m - 1) / 2 < 2 ^ 31 by omega), p2, ec, nI_clamp (show g ((m - 1) / 2) < 2 ^ 31 by omega)]
    refine ⟨vp_in_nI hc (by omega), by decide, vp_in_nI (by omega) (by omega), vp_in_nI p1 (by omega), br_c (fun z2 => hx (Or.inr ?_)) (fun z2 => ⟨by decide, vp_in_nI (by omega) (by omega), ?_⟩)⟩
    · show (a8 (g ((m - 1) / 2))).toInt ≤ (a8 (g m)).toInt
      rw [hgm]
      exact Int64.le_iff_toInt_le.mp z2
    · have hlt : sk_v a8 g m < sk_v a8 g ((m - 1) / 2) := by
        show (a8 (g m)).toInt < (a8 (g ((m - 1) / 2))).toInt
        rw [hgm]
        exact Int.not_le.mp (fun z3 => z2 (Int64.le_iff_toInt_le.mpr z3))
      have hsw := sk_hs_sw hn hh hmn (show (m - 1) / 2 < n by omega) (show m ≠ (m - 1) / 2 by omega)
      rw [hgm] at hsw
      have hR' : sk_oR n (sk_v a8 (sk_sw g m ((m - 1) / 2))) ((m - 1) / 2) := by
        refine sk_rise_step hmn z hQ hlt ?_ ?_ (fun q h1 h2 => ?_)
        · show (a8 (sk_sw g m ((m - 1) / 2) m)).toInt = (a8 (g ((m - 1) / 2))).toInt
          rw [sk_sw_i]
        · show (a8 (sk_sw g m ((m - 1) / 2) ((m - 1) / 2))).toInt = (a8 (g m)).toInt
          rw [sk_sw_j (by omega)]
        · show (a8 (sk_sw g m ((m - 1) / 2) q)).toInt = (a8 (g q)).toInt
          rw [sk_sw_o h1 h2]
      refine sk_put (by omega) p1 ?_
      refine ⟨by decide, nm_e ?_⟩
      refine sk_put (by omega) hc ?_
      refine nm_r (nI_1 k) ?_
      refine ih (k + 1) ((m - 1) / 2) _ _ (sk_sw g m ((m - 1) / 2)) (by omega) ?_ (by omega) (by rw [sk_sw_j (by omega)]; exact hgm) hsw.1 (Or.inr hR') (sk_R_Q hR') (fun b16 b17 g' q1 q2 q3 => H b16 b17 g' q1 q2 (fun d hd => (q3 d hd).trans (hsw.2 d hd)))
      rw [Nat.pow_succ] at hm
      omega
theorem sk_rise {post : St1 → Prop} {cl : Int64} {nu hs : Int32} {a1 a2 a3 a4 a5 a6 a7 : Nat → Int32} {a8 : Nat → Int64} {a9 a10 a11 a12 a13 a14 a15 a16 a17 : Nat → Int32} {n m : Nat} {g : Nat → Nat} (hn : n ≤ 32) (hm : m < n) (hh : sk_hs n a16 a17 g) (hQ : sk_oQ n (sk_v a8 g) m)
    (H : ∀ (a16' a17' : Nat → Int32) (g' : Nat → Nat), sk_hs n a16' a17' g' → sk_oS n (sk_v a8 g') m → (∀ d, d < 32 → (a17' d = -1 ↔ a17 d = -1)) → post (cl, nu, hs, a1, a2, a3, a4, a5, a6, a7, a8, a9, a10, a11, a12, a13, a14, a15, a16', a17')) : wpX_rise post (cl, nu, hs, a1, a2, a3, a4, a5, a6, a7, a8, a9, a10, a11, a12, a13, a14, a15, a16, a17) (nI m) := by
  obtain ⟨h1, h2, h3⟩ := hh.1 m hm
  unfold wpX_rise
  dsimp only
  rw [nI_clamp (show m < 2 ^ 31 by omega), h2]
  refine ⟨vp_in_nI (by omega) (by omega), nm_e ⟨7, ?_⟩⟩
  exact sk_rise12 hn h1 6 0 m a16 a17 g rfl (by omega) hm rfl hh (Or.inl rfl) hQ H
theorem sk_sink69 {post : St1 → Prop} {J7 : Int32 → Int32 → Int32 → Int64 → Int32 → Int32 → (Nat → Int32) → (Nat → Int32) → (Nat → Int32) → (Nat → Int32) → (Nat → Int32) → (Nat → Int32) → (Nat → Int32) → (Nat → Int64) → (Nat → Int32) → (Nat → Int32) → (Nat → Int32) → (Nat → Int32) → (Nat → Int32) → (Nat → Int32) → (Nat → Int32) → (Nat → Int32) → (Nat → Int32) → Prop}
    {cl : Int64} {nu : Int32} {a1 : Nat → Int32} {a2 : Nat → Int32} {a3 : Nat → Int32} {a4 : Nat → Int32} {a5 : Nat → Int32} {a6 : Nat → Int32} {a7 : Nat → Int32} {a8 : Nat → Int64} {a9 : Nat → Int32} {a10 : Nat → Int32} {a11 : Nat → Int32} {a12 : Nat → Int32} {a13 : Nat → Int32} {a14 : Nat → Int32} {a15 : Nat → Int32} {a16 : Nat → Int32} {a17 : Nat → Int32} {n m j k : Nat} {g : Nat → Nat} (hn : n ≤ 32) (hm : m < n) (hj0 : 0 < j) (hj1 : j < 100) (hjm : (j - 1) / 2 = m) (hh : sk_hs n a16 a17 g) (hS : sk_oS n (sk_v a8 g) m)
    (hmin : ∀ i, 0 < i → i < n → (i - 1) / 2 = m → j < n ∧ sk_v a8 g j ≤ sk_v a8 g i) (H0 : sk_oO n (sk_v a8 g) → J7 (nI m) 0 (nI (k + 1)) cl nu (nI n) a1 a2 a3 a4 a5 a6 a7 a8 a9 a10 a11 a12 a13 a14 a15 a16 a17)
    (H1 : ∀ (a16' a17' : Nat → Int32) (g' : Nat → Nat), j < n → sk_hs n a16' a17' g' → sk_oS n (sk_v a8 g') j → (∀ d, d < 32 → (a17' d = -1 ↔ a17 d = -1)) → J7 (nI j) 1 (nI (k + 1)) cl nu (nI n) a1 a2 a3 a4 a5 a6 a7 a8 a9 a10 a11 a12 a13 a14 a15 a16' a17') :
    wX_sink_69 post J7 (nI m) (nI k) (nI j) cl nu (nI n) a1 a2 a3 a4 a5 a6 a7 a8 a9 a10 a11 a12 a13 a14 a15 a16 a17 := by
  have h109 : sk_oO n (sk_v a8 g) → wX_sink_109 post J7 (nI m) (nI k) (nI j) cl nu (nI n) a1 a2 a3 a4 a5 a6 a7 a8 a9 a10 a11 a12 a13 a14 a15 a16 a17 := by
    intro hO
    unfold wX_sink_109 wX_sink_110
    exact br_t rfl (nm_r (nI_1 k) (H0 hO))
  obtain ⟨m1, m2, m3⟩ := hh.1 m hm
  unfold wX_sink_69
  refine pk_le n j (fun z => h109 (sk_sink_exit hS (fun i h1 h2 h3 => absurd (hmin i h1 h2 h3).1 (by omega)))) (fun z => ?_)
  obtain ⟨j1, j2, j3⟩ := hh.1 j z
  rw [nI_clamp (show j < 2 ^ 31 by omega), nI_clamp (show m < 2 ^ 31 by omega), j2, m2, nI_clamp (show g j < 2 ^ 31 by omega), nI_clamp (show g m < 2 ^ 31 by omega)]
  refine ⟨vp_in_nI (by omega) (by omega), vp_in_nI j1 (by omega), vp_in_nI (by omega) (by omega), vp_in_nI m1 (by omega), br_c (fun z2 => h109 (sk_sink_exit hS (fun i h1 h2 h3 => ?_))) (fun z2 => ?_)⟩
  · have z3 : sk_v a8 g m ≤ sk_v a8 g j := Int64.le_iff_toInt_le.mp z2
    have z4 := (hmin i h1 h2 h3).2
    omega
  · have hlt : sk_v a8 g j < sk_v a8 g m := Int.not_le.mp (fun z3 => z2 (Int64.le_iff_toInt_le.mpr z3))
    have hsw := sk_hs_sw hn hh z hm (show j ≠ m by omega)
    have hS' : sk_oS n (sk_v a8 (sk_sw g j m)) j := by
      refine sk_sink_step hS hj0 z hjm hlt (fun i h1 h2 h3 => (hmin i h1 h2 h3).2) ?_ ?_ (fun q h1 h2 => ?_)
      · show (a8 (sk_sw g j m j)).toInt = (a8 (g m)).toInt
        rw [sk_sw_i]
      · show (a8 (sk_sw g j m m)).toInt = (a8 (g j)).toInt
        rw [sk_sw_j (by omega)]
      · show (a8 (sk_sw g j m q)).toInt = (a8 (g q)).toInt
        rw [sk_sw_o h1 h2]
    unfold wX_sink_110
    rw [nI_clamp (show j < 2 ^ 31 by omega), nI_clamp (show m < 2 ^ 31 by omega), j2, m2]
    refine br_f (by decide) ⟨vp_in_nI (by omega) (by omega), nm_e ⟨vp_in_nI (by omega) (by omega), ?_⟩⟩
    refine sk_put (by omega) m1 ?_
    refine sk_put (by omega) j1 ?_
    exact nm_r (nI_1 k) (H1 _ _ (sk_sw g j m) z hsw.1 hS' hsw.2)
theorem sk_sink7 {post : St1 → Prop} {cl : Int64} {nu : Int32} {a1 : Nat → Int32} {a2 : Nat → Int32} {a3 : Nat → Int32} {a4 : Nat → Int32} {a5 : Nat → Int32} {a6 : Nat → Int32} {a7 : Nat → Int32} {a8 : Nat → Int64} {a9 : Nat → Int32} {a10 : Nat → Int32} {a11 : Nat → Int32} {a12 : Nat → Int32} {a13 : Nat → Int32} {a14 : Nat → Int32} {a15 : Nat → Int32} {n : Nat} (hn : n ≤ 32) : ∀ (f k m : Nat) (a16 a17 : Nat → Int32) (g : Nat → Nat), f + k = 6 → 2 ^ k ≤ m + 1 → m < n → sk_hs n a16 a17 g → sk_oS n (sk_v a8 g) m →
    (∀ (a16' a17' : Nat → Int32) (g' : Nat → Nat), sk_hs n a16' a17' g' → sk_oO n (sk_v a8 g') → (∀ d, d < 32 → (a17' d = -1 ↔ a17 d = -1)) → post (cl, nu, nI n, a1, a2, a3, a4, a5, a6, a7, a8, a9, a10, a11, a12, a13, a14, a15, a16', a17')) → wX_sink_7 post (f + 1) (nI m) 1 (nI k) cl nu (nI n) a1 a2 a3 a4 a5 a6 a7 a8 a9 a10 a11 a12 a13 a14 a15 a16 a17 := by
  intro f
  induction f with
  | zero =>
    intro k m a16 a17 g hk hm hmn
    have e : k = 6 := by omega
    rw [e] at hm
    exact absurd hm (by omega)
  | succ f ih =>
    intro k m a16 a17 g hk hm hmn hh hS H
    have hm' : ∀ j, (j - 1) / 2 = m → 0 < j → 2 ^ (k + 1) ≤ j + 1 := by
      intro j h1 h2
      rw [Nat.pow_succ]
      omega
    have go : ∀ j, 0 < j → j < 100 → (j - 1) / 2 = m → (∀ i, 0 < i → i < n → (i - 1) / 2 = m → j < n ∧ sk_v a8 g j ≤ sk_v a8 g i) → wX_sink_69 post (wX_sink_7 post (f + 1)) (nI m) (nI k) (nI j) cl nu (nI n) a1 a2 a3 a4 a5 a6 a7 a8 a9 a10 a11 a12 a13 a14 a15 a16 a17 := by
      intro j h1 h2 h3 h4
      refine sk_sink69 hn hmn h1 h2 h3 hh hS h4 (fun hO => ?_) (fun b16 b17 g' q0 q1 q2 q3 => ?_)
      · have hp := H a16 a17 g hh hO (fun _ _ => Iff.rfl)
        exact ⟨fun _ => hp, fun _ => ⟨fun _ => hp, fun z => absurd rfl z⟩⟩
      · exact ih (k + 1) j b16 b17 g' (by omega) (hm' j h3 h1) q0 q1 q2 (fun e16 e17 g2 r1 r2 r3 => H e16 e17 g2 r1 r2 (fun d hd => (r3 d hd).trans (q3 d hd)))
    have e1 : 2 * nI m + 1 = nI (2 * m + 1) := by
      rw [← nI_1, ← pk_mul]
      rfl
    refine pk_le 6 k (fun z => ?_) (fun _ => br_f (by decide) (nm_r e1 ?_))
    · have e : f + 1 = 0 := by omega
      omega
    · rw [nI_1]
      refine pk_le n (2 * m + 1 + 1) (fun z => go _ (by omega) (by omega) (by omega) (fun i h1 h2 h3 => ?_)) (fun z => ?_)
      · have ei : i = 2 * m + 1 := by omega
        rw [← ei]
        exact ⟨h2, Int.le_refl _⟩
      · obtain ⟨l1, l2, l3⟩ := hh.1 (2 * m + 1) (by omega)
        obtain ⟨r1, r2, r3⟩ := hh.1 (2 * m + 1 + 1) (by omega)
        rw [nI_clamp (show 2 * m + 1 + 1 < 2 ^ 31 by omega), nI_clamp (show 2 * m + 1 < 2 ^ 31 by omega), l2, r2, nI_clamp (show g (2 * m + 1) < 2 ^ 31 by omega), nI_clamp (show g (2 * m + 1 + 1) < 2 ^ 31 by omega)]
        refine ⟨vp_in_nI (by omega) (by omega), vp_in_nI r1 (by omega), vp_in_nI (by omega) (by omega), vp_in_nI l1 (by omega), br_c (fun z2 => go _ (by omega) (by omega) (by omega) (fun i h1 h2 h3 => ?_)) (fun z2 => nm_e (go _ (by omega) (by omega) (by omega) (fun i h1 h2 h3 => ?_)))⟩
        · have z3 : sk_v a8 g (2 * m + 1) ≤ sk_v a8 g (2 * m + 1 + 1) := Int64.le_iff_toInt_le.mp z2
          refine ⟨by omega, ?_⟩
          by_cases ei : i = 2 * m + 1
          · rw [ei]; exact Int.le_refl _
          · have ei2 : i = 2 * m + 1 + 1 := by omega
            rw [ei2]; exact z3
        · have z3 : sk_v a8 g (2 * m + 1 + 1) < sk_v a8 g (2 * m + 1) := Int.not_le.mp (fun z3 => z2 (Int64.le_iff_toInt_le.mpr z3))
          refine ⟨by omega, ?_⟩
          by_cases ei : i = 2 * m + 1
          · rw [ei]; exact Int.le_of_lt z3
          · have ei2 : i = 2 * m + 1 + 1 := by omega
            rw [ei2]; exact Int.le_refl _
theorem sk_sink {post : St1 → Prop} {cl : Int64} {nu : Int32} {a1 : Nat → Int32} {a2 : Nat → Int32} {a3 : Nat → Int32} {a4 : Nat → Int32} {a5 : Nat → Int32} {a6 : Nat → Int32} {a7 : Nat → Int32} {a8 : Nat → Int64} {a9 : Nat → Int32} {a10 : Nat → Int32} {a11 : Nat → Int32} {a12 : Nat → Int32} {a13 : Nat → Int32} {a14 : Nat → Int32} {a15 : Nat → Int32} {a16 : Nat → Int32} {a17 : Nat → Int32} {n m : Nat} {g : Nat → Nat} (hn : n ≤ 32) (hm : m < n) (hh : sk_hs n a16 a17 g) (hS : sk_oS n (sk_v a8 g) m)
    (H : ∀ (a16' a17' : Nat → Int32) (g' : Nat → Nat), sk_hs n a16' a17' g' → sk_oO n (sk_v a8 g') → (∀ d, d < 32 → (a17' d = -1 ↔ a17 d = -1)) → post (cl, nu, nI n, a1, a2, a3, a4, a5, a6, a7, a8, a9, a10, a11, a12, a13, a14, a15, a16', a17')) : wpX_sink post (cl, nu, nI n, a1, a2, a3, a4, a5, a6, a7, a8, a9, a10, a11, a12, a13, a14, a15, a16, a17) (nI m) := by
  unfold wpX_sink
  exact ⟨7, sk_sink7 hn 6 0 m a16 a17 g rfl (by omega) hm hh hS H⟩
/-- leaveHeap: c is in the heap no more, of the others the same are -/
theorem sk_leaveHeap {post : St1 → Prop} {cl : Int64} {nu : Int32} {a1 : Nat → Int32} {a2 : Nat → Int32} {a3 : Nat → Int32} {a4 : Nat → Int32} {a5 : Nat → Int32} {a6 : Nat → Int32} {a7 : Nat → Int32} {a8 : Nat → Int64} {a9 : Nat → Int32} {a10 : Nat → Int32} {a11 : Nat → Int32} {a12 : Nat → Int32} {a13 : Nat → Int32} {a14 : Nat → Int32} {a15 : Nat → Int32} {a16 : Nat → Int32} {a17 : Nat → Int32} {n c : Nat} (hH : sk_Hr n a8 a16 a17) (hc : c < 32)
    (H : ∀ (n' : Nat) (a16' a17' : Nat → Int32), sk_Hr n' a8 a16' a17' → a17' c = -1 → (∀ d, d < 32 → d ≠ c → (a17' d = -1 ↔ a17 d = -1)) → (a17 c = -1 → n' = n) → (a17 c ≠ -1 → n' + 1 = n) → post (cl, nu, nI n', a1, a2, a3, a4, a5, a6, a7, a8, a9, a10, a11, a12, a13, a14, a15, a16', a17')) :
    wpX_leaveHeap post (cl, nu, nI n, a1, a2, a3, a4, a5, a6, a7, a8, a9, a10, a11, a12, a13, a14, a15, a16, a17) (nI c) := by
  obtain ⟨hn, g, hh, hO⟩ := hH
  have ec : (nI c).toNatClampNeg = c := nI_clamp (by omega)
  unfold wpX_leaveHeap
  dsimp only
  rw [ec]
  refine ⟨vp_in_nI hc (by omega), nm_e ?_⟩
  rcases hh.2 c hc with e | ⟨m, hm, e⟩
  · rw [e]
    exact br_f (by decide) (H n a16 a17 ⟨hn, g, hh, hO⟩ e (fun _ _ _ => Iff.rfl) (fun _ => rfl) (fun z => absurd e z))
  · have em : a17 c = nI m := by rw [← e]; exact (hh.1 m hm).2.2
    have em1 : ¬ a17 c = -1 := by rw [em]; exact sk_ne (by omega)
    obtain ⟨k, rfl⟩ : ∃ k, n = k + 1 := ⟨n - 1, by omega⟩
    rw [em, nI_pred]
    refine br_t (nI_pos' (by omega)) ⟨vp_in_nI hc (by omega), nm_e (nm_e ?_)⟩
    refine pk_le k m (fun z => ?_) (fun z => ?_)
    · have mk : m = k := by omega
      have h1 := sk_hs_pop hn hh
      rw [← mk, e, mk] at h1
      exact H k a16 _ ⟨by omega, g, h1, fun i h1 h2 => hO i h1 (by omega)⟩ pk_us (fun d _ hd => by rw [pk_un hd]) (fun z => absurd z em1) (fun _ => rfl)
    · have hk := hh.1 k (by omega)
      rw [nI_clamp (show k < 2 ^ 31 by omega), hk.2.1]
      refine ⟨vp_in_nI (by omega) (by omega), ?_⟩
      obtain ⟨d1, d2, d3⟩ := sk_hs_del hn z hh
      rw [e] at d1 d2 d3
      refine sk_put (by omega) hk.1 ?_
      refine sk_rise (n := k) (by omega) z d1 ⟨fun i h1 h2 h3 h4 => ?_, fun h0 i h1 h2 h3 => ?_⟩ (fun b16 b17 g' q1 q2 q3 => ?_)
      · show (a8 (va_up g m (g k) ((i - 1) / 2))).toInt ≤ (a8 (va_up g m (g k) i)).toInt
        rw [sk_un h4, sk_un h3]
        exact hO i h1 (by omega)
      · show (a8 (va_up g m (g k) ((m - 1) / 2))).toInt ≤ (a8 (va_up g m (g k) i)).toInt
        rw [sk_un (show (m - 1) / 2 ≠ m by omega), sk_un (show i ≠ m by omega)]
        have g1 := hO m h0 (by omega)
        have g2 := hO i h1 (by omega)
        rw [h3] at g2
        exact Int.le_trans g1 g2
      · refine sk_sink (n := k) (by omega) z q1 q2 (fun e16 e17 g2 r1 r2 r3 => ?_)
        exact H k e16 e17 ⟨by omega, g2, r1, r2⟩ ((r3 c hc).mpr ((q3 c hc).mpr d2)) (fun d hd hne => (r3 d hd).trans ((q3 d hd).trans (d3 d hd hne))) (fun z => absurd z em1) (fun _ => rfl)
/-- setEnd: c is in the heap if it has an end -/
theorem sk_setEnd {post : St1 → Prop} {cl : Int64} {nu : Int32} {a1 : Nat → Int32} {a2 : Nat → Int32} {a3 : Nat → Int32} {a4 : Nat → Int32} {a5 : Nat → Int32} {a6 : Nat → Int32} {a7 : Nat → Int32} {a8 : Nat → Int64} {a9 : Nat → Int32} {a10 : Nat → Int32} {a11 : Nat → Int32} {a12 : Nat → Int32} {a13 : Nat → Int32} {a14 : Nat → Int32} {a15 : Nat → Int32} {a16 : Nat → Int32} {a17 : Nat → Int32} {n c t : Nat} (hH : sk_Hr n a8 a16 a17) (hc : c < 32) (ht : t < 2 ^ 31)
    (H : ∀ (n' : Nat) (a8' : Nat → Int64) (a16' : Nat → Int32) (a17' : Nat → Int32), sk_Hr n' a8' a16' a17' → (∀ d, d < 32 → d ≠ c → a8' d = a8 d ∧ (a17' d = -1 ↔ a17 d = -1)) → (a17' c ≠ -1 → 0 < t ∧ a8' c = cl + (nI t).toInt64) → post (cl, nu, nI n', a1, a2, a3, a4, a5, a6, a7, a8', a9, a10, a11, a12, a13, a14, a15, a16', a17')) :
    wpX_setEnd post (cl, nu, nI n, a1, a2, a3, a4, a5, a6, a7, a8, a9, a10, a11, a12, a13, a14, a15, a16, a17) (nI c) (nI t) := by
  have ec : (nI c).toNatClampNeg = c := nI_clamp (by omega)
  unfold wpX_setEnd
  dsimp only
  refine sk_leaveHeap hH hc (fun n1 b16 b17 q1 q2 q3 _ _ => ?_)
  have key : ∀ z0 : Int64, (0 < t → z0 = cl + (nI t).toInt64) → wX_setEnd_25 post (nI c) (nI t) z0 (nI c) cl nu (nI n1) a1 a2 a3 a4 a5 a6 a7 a8 a9 a10 a11 a12 a13 a14 a15 b16 b17 := by
    intro z0 hz
    obtain ⟨hn, g, hh, hO⟩ := q1
    have ho : ∀ i, i < n1 → sk_v (vp_updL a8 c z0) g i = sk_v a8 g i := by
      intro i hi
      show (vp_updL a8 c z0 (g i)).toInt = (a8 (g i)).toInt
      rw [pk_uLn (fun z => sk_hs_in hn hh hi (by rw [z]; exact q2))]
    unfold wX_setEnd_25
    rw [ec]
    refine ⟨vp_in_nI hc (by omega), nm_e (pk_le t 0 (fun z => ?_) (fun z => ?_))⟩
    · refine H n1 _ b16 b17 ⟨hn, g, hh, fun i h1 h2 => ?_⟩ (fun d hd hne => ⟨pk_uLn hne, q3 d hd hne⟩) (fun z' => absurd q2 z')
      rw [ho i h2, ho _ (by omega)]
      exact hO i h1 h2
    · have hlt := sk_hs_room hn hc q2 hh
      rw [nI_clamp (show n1 < 2 ^ 31 by omega)]
      refine ⟨vp_in_nI hlt (by omega), nm_e ⟨vp_in_nI hc (by omega), nm_e (nm_r (nI_1 n1) ?_)⟩⟩
      rw [nI_pred]
      refine sk_rise (n := n1 + 1) (by omega) (by omega) (sk_hs_add hlt hc q2 hh) ⟨fun i h1 h2 h3 h4 => ?_, fun h0 i h1 h2 h3 => absurd h3 (by omega)⟩ (fun e16 e17 g' r1 r2 r3 => ?_)
      · show (vp_updL a8 c z0 (va_up g n1 c ((i - 1) / 2))).toInt ≤ (vp_updL a8 c z0 (va_up g n1 c i)).toInt
        rw [sk_un h4, sk_un h3]
        have o1 := ho i (by omega)
        have o2 := ho ((i - 1) / 2) (by omega)
        have o3 := hO i h1 (by omega)
        rw [← o1, ← o2] at o3
        exact o3
      · refine H (n1 + 1) _ e16 e17 ⟨by omega, g', r1, sk_sink_exit r2 (fun i h1 h2 h3 => absurd h3 (by omega))⟩ (fun d hd hne => ⟨pk_uLn hne, (r3 d hd).trans ?_⟩) (fun _ => ⟨z, by rw [pk_uLs]; exact hz z⟩)
        rw [pk_un hne]
        exact q3 d hd hne
  exact pk_eq t 0 (fun z => key 0 (fun h => absurd h (by omega))) (fun z => key _ (fun _ => rfl))
end
section
/-! the whole state -/
def sk_U (U : Nat → List Nat) (a1 a4 a11 a12 a13 a14 a15 : Nat → Int32) : Prop := sk_R U a11 a12 a13 a14 ∧ (∀ s, s < 3 → a15 s = nI (U s).length) ∧ ∀ s c, s < 3 → (c ∈ U s ↔ c < 32 ∧ a4 c = 1 ∧ a1 (c / 4) = nI s)
/-- the free cells by sorts; e: a cell that was taken off and is no item yet (32: none) -/
def sk_F (e : Nat) (a1 a2 a3 a4 : Nat → Int32) : Prop := ∃ F : Nat → List Nat, ∀ s, s < 3 → sk_ch a3 (a2 s) (F s) ∧ (F s).Nodup ∧ ∀ c, c ∈ F s → c < 32 ∧ c ≠ e ∧ a4 c ≠ 1 ∧ a1 (c / 4) = nI s
/-- U: the items of each sort in their order of use; n: how many are in the heap -/
def sk_iv (u : St1) (U : Nat → List Nat) (n e : Nat) : Prop := match u with
  | (cl, nu, hs, a1, a2, a3, a4, a5, a6, a7, a8, a9, a10, a11, a12, a13, a14, a15, a16, a17) => hs = nI n ∧ sk_U U a1 a4 a11 a12 a13 a14 a15 ∧ sk_C a4 a5 a9 a10 ∧ sk_F e a1 a2 a3 a4 ∧ sk_I a1 a4 a5 ∧ sk_Hr n a8 a16 a17 ∧ ∀ c, c < 32 → a17 c ≠ -1 → a4 c = 1
theorem sk_Hr_a8 {n c : Nat} {a8 a8' : Nat → Int64} {a16 a17 : Nat → Int32} (h : sk_Hr n a8 a16 a17) (h7 : a17 c = -1) (he : ∀ d, d ≠ c → a8' d = a8 d) : sk_Hr n a8' a16 a17 := by
  obtain ⟨hn, g, hh, hO⟩ := h
  have ho : ∀ i, i < n → sk_v a8' g i = sk_v a8 g i := by
    intro i hi
    show (a8' (g i)).toInt = (a8 (g i)).toInt
    rw [he (g i) (fun z => sk_hs_in hn hh hi (by rw [z]; exact h7))]
  refine ⟨hn, g, hh, fun i h1 h2 => ?_⟩
  rw [ho i h2, ho _ (by omega)]
  exact hO i h1 h2
/-- giveUp: the item c of sort s goes -/
theorem sk_giveUp {post : St1 → Prop} {cl : Int64} {nu : Int32} {a1 : Nat → Int32} {a2 : Nat → Int32} {a3 : Nat → Int32} {a4 : Nat → Int32} {a5 : Nat → Int32} {a6 : Nat → Int32} {a7 : Nat → Int32} {a8 : Nat → Int64} {a9 : Nat → Int32} {a10 : Nat → Int32} {a11 : Nat → Int32} {a12 : Nat → Int32} {a13 : Nat → Int32} {a14 : Nat → Int32} {a15 : Nat → Int32} {a16 : Nat → Int32} {a17 : Nat → Int32} {U : Nat → List Nat} {n e s c : Nat} (h : sk_iv (cl, nu, nI n, a1, a2, a3, a4, a5, a6, a7, a8, a9, a10, a11, a12, a13, a14, a15, a16, a17) U n e) (hs3 : s < 3) (hc : c ∈ U s) (hce : c ≠ e)
    (H : ∀ (n' : Nat) (a2' : Nat → Int32) (a3' : Nat → Int32) (a9' : Nat → Int32) (a10' : Nat → Int32) (a11' : Nat → Int32) (a12' : Nat → Int32) (a13' : Nat → Int32) (a14' : Nat → Int32) (a15' : Nat → Int32) (a16' : Nat → Int32) (a17' : Nat → Int32), sk_iv (cl, nu, nI n', a1, a2', a3', upd a4 c 0, a5, a6, a7, a8, a9', a10', a11', a12', a13', a14', a15', a16', a17') (va_up U s ((U s).erase c)) n' e →
      a2' s = nI c → (∀ d, d < 32 → a17' d ≠ -1 → a17 d ≠ -1) → (a17 c ≠ -1 → n' + 1 = n) →
      post (cl, nu, nI n', a1, a2', a3', upd a4 c 0, a5, a6, a7, a8, a9', a10', a11', a12', a13', a14', a15', a16', a17')) :
    wpX_giveUp post (cl, nu, nI n, a1, a2, a3, a4, a5, a6, a7, a8, a9, a10, a11, a12, a13, a14, a15, a16, a17) (nI c) := by
  obtain ⟨_, ⟨hR, hL, hM⟩, hC, ⟨F, hF⟩, hI, hH, hX⟩ := h
  obtain ⟨hc32, h4, h1⟩ := (hM s c hs3).mp hc
  have ec : (nI c).toNatClampNeg = c := nI_clamp (by omega)
  have es : (nI s).toNatClampNeg = s := nI_clamp (by omega)
  unfold wpX_giveUp
  dsimp only
  rw [sk_shr hc32, nI_clamp (show c / 4 < 2 ^ 31 by omega), h1]
  refine ⟨vp_in_nI (by omega) (by omega), nm_e ?_⟩
  refine sk_unchain hC hc32 h4 (fun b9 b10 hC' => ?_)
  refine sk_unhang hR hs3 hc (fun b11 b12 b13 b14 hR' => ?_)
  refine sk_leaveHeap hH hc32 (fun n' b16 b17 hH' q1 q2 q3 q4 => ?_)
  dsimp only
  rw [ec, es]
  refine ⟨vp_in_nI hc32 (by omega), nm_e ⟨vp_in_nI hs3 (by omega), vp_in_nI hs3 (by omega), nm_e ⟨vp_in_nI hs3 (by omega), vp_in_nI hc32 (by omega), nm_e ⟨vp_in_nI hs3 (by omega), nm_e ?_⟩⟩⟩⟩
  refine H n' _ _ b9 b10 b11 b12 b13 b14 _ b16 b17 ⟨rfl, ⟨hR', fun t ht => ?_, fun t x ht => ?_⟩, hC', ⟨va_up F s (c :: F s), fun t ht => ?_⟩, ⟨fun x hx g => hI.1 x hx (sk_off.mp g).2, fun x y hx hy g g' => hI.2.1 x y hx hy (sk_off.mp g).2 (sk_off.mp g').2, hI.2.2⟩, hH', fun d hd g => ?_⟩ pk_us (fun d hd g => ?_) q4
  · by_cases et : t = s
    · rw [et, pk_us, sk_us, hL s hs3, List.length_erase_of_mem hc]
      exact pk_sub (b := 1) (List.length_pos_of_mem hc)
    · rw [pk_un et, sk_un et]
      exact hL t ht
  · rw [sk_off]
    by_cases et : t = s
    · rw [et, sk_us, (hR.1 s hs3).2.mem_erase_iff, hM s x hs3]
      exact ⟨fun z => ⟨z.2.1, ⟨z.1, z.2.2.1⟩, z.2.2.2⟩, fun z => ⟨z.2.1.1, z.1, z.2.1.2, z.2.2⟩⟩
    · rw [sk_un et, hM t x ht]
      exact ⟨fun z => ⟨z.1, ⟨fun g => et ((nI_eq (by omega) (by omega)).mp (z.2.2.symm.trans (by rw [g]; exact h1))), z.2.1⟩, z.2.2⟩, fun z => ⟨z.1, z.2.1.2, z.2.2⟩⟩
  · obtain ⟨f1, f2, f3⟩ := hF t ht
    have out : ∀ j, j ∈ F t → j ≠ c := fun j hj z => (f3 j hj).2.2.1 (by rw [z]; exact h4)
    have off : ∀ j, j ∈ F t → upd a4 c 0 j ≠ 1 := fun j hj z => (f3 j hj).2.2.1 (sk_off.mp z).2
    by_cases et : t = s
    · rw [et, sk_us, pk_us]
      rw [et] at f1 f2 f3 out off
      refine ⟨⟨rfl, hc32, ?_⟩, List.nodup_cons.mpr ⟨fun hm => out c hm rfl, f2⟩, fun x hx => ?_⟩
      · rw [pk_us]
        exact sk_ch_ext (fun j hj => pk_un (out j hj)) f1
      · rcases List.mem_cons.mp hx with z | z
        · rw [z]
          exact ⟨hc32, hce, fun g => (sk_off.mp g).1 rfl, h1⟩
        · exact ⟨(f3 x z).1, (f3 x z).2.1, off x z, (f3 x z).2.2.2⟩
    · rw [sk_un et, pk_un et]
      exact ⟨sk_ch_ext (fun j hj => pk_un (out j hj)) f1, f2, fun x z => ⟨(f3 x z).1, (f3 x z).2.1, off x z, (f3 x z).2.2.2⟩⟩
  · have hdc : d ≠ c := fun z => g (by rw [z]; exact q1)
    exact sk_off.mpr ⟨hdc, hX d hd (fun z => g ((q2 d hd hdc).mpr z))⟩
  · have hdc : d ≠ c := fun z => g (by rw [z]; exact q1)
    exact fun z => g ((q2 d hd hdc).mpr z)
/-! pages and free cells -/
theorem sk_cell (p i : Nat) : 4 * nI p + nI i = nI (4 * p + i) := by
  rw [← nI_add, ← pk_mul]
  rfl
theorem sk_givePage64 {post : St1 → Prop} {cl : Int64} {nu : Int32} {hs : Int32} {a1 : Nat → Int32} {a4 : Nat → Int32} {a5 : Nat → Int32} {a6 : Nat → Int32} {a7 : Nat → Int32} {a8 : Nat → Int64} {a9 : Nat → Int32} {a10 : Nat → Int32} {a11 : Nat → Int32} {a12 : Nat → Int32} {a13 : Nat → Int32} {a14 : Nat → Int32} {a15 : Nat → Int32} {a16 : Nat → Int32} {a17 : Nat → Int32} {s p : Nat} (w : Nat) (hw : w ≤ 4) (hs3 : s < 3) (hp : p < 8) (h1 : a1 p = nI s) (h4 : ∀ c, c < 32 → c / 4 = p → a4 c ≠ 1)
    (H : ∀ (a2' a3' : Nat → Int32), sk_F 32 a1 a2' a3' a4 → post (cl, nu, hs, a1, a2', a3', a4, a5, a6, a7, a8, a9, a10, a11, a12, a13, a14, a15, a16, a17)) (a2 a3 : Nat → Int32)
    (hF : ∃ F : Nat → List Nat, ∀ s, s < 3 → sk_ch a3 (a2 s) (F s) ∧ (F s).Nodup ∧ ∀ c, c ∈ F s → c < 32 ∧ c ≠ 32 ∧ a4 c ≠ 1 ∧ a1 (c / 4) = nI s ∧ c / 4 ≠ p) :
    ∃ fu, wX_givePage_64 post (nI s) (nI p) (nI w) cl nu hs fu 0 a1 a2 a3 a4 a5 a6 a7 a8 a9 a10 a11 a12 a13 a14 a15 a16 a17 := by
  have es : (nI s).toNatClampNeg = s := nI_clamp (by omega)
  refine pk_loop (σ := (Nat → Int32) × (Nat → Int32)) (fun n i q => wX_givePage_64 post (nI s) (nI p) (nI w) cl nu hs n (nI i) a1 q.1 q.2 a4 a5 a6 a7 a8 a9 a10 a11 a12 a13 a14 a15 a16 a17)
    (fun i q => ∃ F : Nat → List Nat, ∀ s, s < 3 → sk_ch q.2 (q.1 s) (F s) ∧ (F s).Nodup ∧ ∀ c, c ∈ F s → c < 32 ∧ c ≠ 32 ∧ a4 c ≠ 1 ∧ a1 (c / 4) = nI s ∧ (c / 4 = p → c % 4 < i)) w 0 (a2, a3) (by omega) ?_ ?_ ?_
  · obtain ⟨F, hF⟩ := hF
    refine ⟨F, fun t ht => ⟨(hF t ht).1, (hF t ht).2.1, fun c hc => ?_⟩⟩
    have g := (hF t ht).2.2 c hc
    exact ⟨g.1, g.2.1, g.2.2.1, g.2.2.2.1, fun z => absurd z g.2.2.2.2⟩
  · intro n q hq
    obtain ⟨F, hF⟩ := hq
    refine pk_le w w (fun _ => H q.1 q.2 ⟨F, fun t ht => ⟨(hF t ht).1, (hF t ht).2.1, fun c hc => ?_⟩⟩) (fun z => absurd z (by omega))
    have g := (hF t ht).2.2 c hc
    exact ⟨g.1, g.2.1, g.2.2.1, g.2.2.2.1⟩
  · intro n i q hi hq hw'
    obtain ⟨F, hF⟩ := hq
    obtain ⟨b2, b3⟩ := q
    refine pk_le w i (fun z => absurd z (by omega)) (fun _ => ?_)
    rw [es, sk_cell, nI_clamp (show 4 * p + i < 2 ^ 31 by omega)]
    refine ⟨vp_in_nI hs3 (by omega), vp_in_nI (by omega) (by omega), nm_e ⟨vp_in_nI hs3 (by omega), nm_e (nm_r (nI_1 i) (hw' (upd b2 s (nI (4 * p + i)), upd b3 (4 * p + i) (b2 s)) ⟨va_up F s ((4 * p + i) :: F s), fun t ht => ?_⟩))⟩⟩
    obtain ⟨f1, f2, f3⟩ := hF t ht
    have hq1 : (4 * p + i) / 4 = p := by omega
    have out : ∀ j, j ∈ F t → j ≠ 4 * p + i := by
      intro j hj z
      have g := (f3 j hj).2.2.2.2
      rw [z] at g
      have g' := g hq1
      omega
    show sk_ch (upd b3 (4 * p + i) (b2 s)) (upd b2 s (nI (4 * p + i)) t) (va_up F s ((4 * p + i) :: F s) t) ∧ _
    by_cases et : t = s
    · rw [et, sk_us, pk_us]
      rw [et] at f1 f2 f3 out
      refine ⟨⟨rfl, by omega, ?_⟩, List.nodup_cons.mpr ⟨fun hm => out _ hm rfl, f2⟩, fun x hx => ?_⟩
      · rw [pk_us]
        exact sk_ch_ext (fun j hj => pk_un (out j hj)) f1
      · rcases List.mem_cons.mp hx with z | z
        · rw [z, hq1]
          exact ⟨by omega, by omega, h4 _ (by omega) hq1, h1, fun _ => by omega⟩
        · have g := f3 x z
          exact ⟨g.1, g.2.1, g.2.2.1, g.2.2.2.1, fun y => Nat.lt_succ_of_lt (g.2.2.2.2 y)⟩
    · rw [sk_un et, pk_un et]
      refine ⟨sk_ch_ext (fun j hj => pk_un (out j hj)) f1, f2, fun x z => ?_⟩
      have g := f3 x z
      exact ⟨g.1, g.2.1, g.2.2.1, g.2.2.2.1, fun y => Nat.lt_succ_of_lt (g.2.2.2.2 y)⟩
theorem sk_givePage {post : St1 → Prop} {cl : Int64} {nu : Int32} {a1 : Nat → Int32} {a2 : Nat → Int32} {a3 : Nat → Int32} {a4 : Nat → Int32} {a5 : Nat → Int32} {a6 : Nat → Int32} {a7 : Nat → Int32} {a8 : Nat → Int64} {a9 : Nat → Int32} {a10 : Nat → Int32} {a11 : Nat → Int32} {a12 : Nat → Int32} {a13 : Nat → Int32} {a14 : Nat → Int32} {a15 : Nat → Int32} {a16 : Nat → Int32} {a17 : Nat → Int32} {U : Nat → List Nat} {n s : Nat} (h : sk_iv (cl, nu, nI n, a1, a2, a3, a4, a5, a6, a7, a8, a9, a10, a11, a12, a13, a14, a15, a16, a17) U n 32) (hs3 : s < 3)
    (H : ∀ (a1' : Nat → Int32) (a2' : Nat → Int32) (a3' : Nat → Int32), sk_iv (cl, nu, nI n, a1', a2', a3', a4, a5, a6, a7, a8, a9, a10, a11, a12, a13, a14, a15, a16, a17) U n 32 → post (cl, nu, nI n, a1', a2', a3', a4, a5, a6, a7, a8, a9, a10, a11, a12, a13, a14, a15, a16, a17)) : wpX_givePage post (cl, nu, nI n, a1, a2, a3, a4, a5, a6, a7, a8, a9, a10, a11, a12, a13, a14, a15, a16, a17) (nI s) := by
  have h0 := h
  obtain ⟨_, ⟨hR, hL, hM⟩, hC, ⟨F, hF⟩, hI, hH, hX⟩ := h
  have fin : ∀ q, q < 8 → a1 q = -1 → ∀ w, w ≤ 4 → ∃ fu, wX_givePage_64 post (nI s) (nI q) (nI w) cl nu (nI n) fu 0 (upd a1 q (nI s)) a2 a3 a4 a5 a6 a7 a8 a9 a10 a11 a12 a13 a14 a15 a16 a17 := by
    intro q hq hq1 w hw
    have h4 : ∀ c, c < 32 → c / 4 = q → a4 c ≠ 1 := by
      intro c hc e g
      obtain ⟨t, ht, et⟩ := (hI.1 c hc g).2
      rw [e, hq1] at et
      exact sk_ne (by omega) et.symm
    have h1' : ∀ c, c < 32 → a4 c = 1 → upd a1 q (nI s) (c / 4) = a1 (c / 4) := fun c hc g => pk_un (fun z => h4 c hc z g)
    refine sk_givePage64 w hw hs3 hq pk_us h4 (fun b2 b3 hF' => H _ b2 b3 ⟨rfl, ⟨hR, hL, fun t c ht => ?_⟩, hC, hF', ⟨fun c hc g => ?_, hI.2.1, fun t ht => ?_⟩, hH, hX⟩) a2 a3 ⟨F, fun t ht => ⟨(hF t ht).1, (hF t ht).2.1, fun c hc => ?_⟩⟩
    · rw [hM t c ht]
      exact ⟨fun z => ⟨z.1, z.2.1, by rw [h1' c z.1 z.2.1]; exact z.2.2⟩, fun z => ⟨z.1, z.2.1, by rw [← h1' c z.1 z.2.1]; exact z.2.2⟩⟩
    · rw [h1' c hc g]
      exact hI.1 c hc g
    · by_cases e : t = q
      · rw [e, pk_us]
        exact Or.inr ⟨s, hs3, rfl⟩
      · rw [pk_un e]
        exact hI.2.2 t ht
    · obtain ⟨g1, g2, g3, g4⟩ := (hF t ht).2.2 c hc
      have g5 : c / 4 ≠ q := fun z => sk_ne (show t < 2 ^ 31 by omega) (by rw [← g4, z]; exact hq1)
      exact ⟨g1, g2, g3, by rw [pk_un g5]; exact g4, g5⟩
  have ext : ∀ f (pg : Int32), (pg = -1 ∨ ∃ q, q < 8 ∧ pg = nI q ∧ a1 q = -1) → wX_givePage_5 post (nI s) cl nu (nI n) a1 a2 a3 a4 a5 a6 a7 a8 a9 a10 a11 a12 a13 a14 a15 a16 a17 (f + 1) pg (-1) := by
    intro f pg hpg
    refine br_t (by decide) ?_
    rcases hpg with e | ⟨q, hq, e, hq1⟩
    · subst e
      exact br_f (by decide) (H a1 a2 a3 h0)
    · subst e
      refine br_t (nI_pos' (by omega)) ⟨vp_in_nI hq (by omega), ?_⟩
      rw [nI_clamp (show q < 2 ^ 31 by omega)]
      refine nm_e (pk_eq s 0 (fun _ => fin q hq hq1 4 (by omega)) (fun _ => pk_eq s 1 (fun _ => fin q hq hq1 2 (by omega)) (fun _ => fin q hq hq1 1 (by omega))))
  have go : ∀ p, p < 8 → ∀ (pg : Int32), (pg = -1 ∨ ∃ q, q < 8 ∧ pg = nI q ∧ a1 q = -1) → wX_givePage_5 post (nI s) cl nu (nI n) a1 a2 a3 a4 a5 a6 a7 a8 a9 a10 a11 a12 a13 a14 a15 a16 a17 (p + 2) pg (nI p) := by
    intro p
    induction p with
    | zero =>
      intro hp pg hpg
      refine br_f (nI_pos (by omega)) ⟨vp_in_nI hp (by omega), ?_⟩
      rw [nI_clamp (show 0 < 2 ^ 31 by omega)]
      refine br_c (fun z => nm_r (e' := -1) (by decide) (ext 0 pg hpg)) (fun z => nm_r (e' := -1) (by decide) (ext 0 _ (Or.inr ⟨0, hp, rfl, ?_⟩)))
      rcases hI.2.2 0 hp with e | ⟨t, ht, e⟩
      · exact e
      · exact absurd (by rw [e]; exact nI_pos' (by omega)) z
    | succ p ih =>
      intro hp pg hpg
      refine br_f (nI_pos (by omega)) ⟨vp_in_nI hp (by omega), ?_⟩
      rw [nI_clamp (show p + 1 < 2 ^ 31 by omega)]
      refine br_c (fun z => nm_r (pk_m1 p) (ih (by omega) pg hpg)) (fun z => nm_r (pk_m1 p) (ih (by omega) _ (Or.inr ⟨p + 1, hp, rfl, ?_⟩)))
      rcases hI.2.2 (p + 1) hp with e | ⟨t, ht, e⟩
      · exact e
      · exact absurd (by rw [e]; exact nI_pos' (by omega)) z
  unfold wpX_givePage
  exact ⟨9, go 7 (by omega) (-1) (Or.inl rfl)⟩
end
section
/-! makeRoom: what it leaves as it was -/
def sk_ex (U U' : Nat → List Nat) (a4 a4' a17 a17' : Nat → Int32) (s : Nat) : Prop := (∀ t, t ≠ s → U' t = U t) ∧ (∀ d, d < 32 → a4' d = 1 → a4 d = 1) ∧ ∀ d, d < 32 → a17' d ≠ -1 → a17 d ≠ -1
theorem sk_ex_0 {U : Nat → List Nat} {a4 a17 : Nat → Int32} {s : Nat} : sk_ex U U a4 a4 a17 a17 s := ⟨fun _ _ => rfl, fun _ _ h => h, fun _ _ h => h⟩
theorem sk_room42 {post : Int32 → St1 → Prop} {cl : Int64} {nu : Int32} {a1 : Nat → Int32} {a2 : Nat → Int32} {a3 : Nat → Int32} {a4 : Nat → Int32} {a5 : Nat → Int32} {a6 : Nat → Int32} {a7 : Nat → Int32} {a8 : Nat → Int64} {a9 : Nat → Int32} {a10 : Nat → Int32} {a11 : Nat → Int32} {a12 : Nat → Int32} {a13 : Nat → Int32} {a14 : Nat → Int32} {a15 : Nat → Int32} {a16 : Nat → Int32} {a17 : Nat → Int32} {U : Nat → List Nat} {n s : Nat} (h : sk_iv (cl, nu, nI n, a1, a2, a3, a4, a5, a6, a7, a8, a9, a10, a11, a12, a13, a14, a15, a16, a17) U n 32) (hs3 : s < 3) (H0 : a2 s = -1 → post (-1) (cl, nu, nI n, a1, a2, a3, a4, a5, a6, a7, a8, a9, a10, a11, a12, a13, a14, a15, a16, a17))
    (H1 : ∀ (f : Nat) (a2' : Nat → Int32), f < 32 → a4 f ≠ 1 → a1 (f / 4) = nI s → sk_iv (cl, nu, nI n, a1, a2', a3, a4, a5, a6, a7, a8, a9, a10, a11, a12, a13, a14, a15, a16, a17) U n f → post (nI f) (cl, nu, nI n, a1, a2', a3, a4, a5, a6, a7, a8, a9, a10, a11, a12, a13, a14, a15, a16, a17)) : wX_makeRoom_42 post (nI s) cl nu (nI n) a1 a2 a3 a4 a5 a6 a7 a8 a9 a10 a11 a12 a13 a14 a15 a16 a17 := by
  obtain ⟨_, hU, hC, ⟨F, hF⟩, hI, hH, hX⟩ := h
  unfold wX_makeRoom_42
  rw [nI_clamp (show s < 2 ^ 31 by omega)]
  refine ⟨vp_in_nI hs3 (by omega), ?_⟩
  obtain ⟨f1, f2, f3⟩ := hF s hs3
  cases hl : F s with
  | nil =>
    rw [hl] at f1
    have e : a2 s = -1 := f1
    exact nm_r e (br_t (by decide) (H0 e))
  | cons c l =>
    rw [hl] at f1 f2 f3
    have e : a2 s = nI c := f1.1
    have hc : c < 32 := f1.2.1
    have hn := List.nodup_cons.mp f2
    have g := f3 c List.mem_cons_self
    refine nm_r e (br_f (nI_pos (by omega)) ⟨vp_in_nI hc (by omega), vp_in_nI hs3 (by omega), ?_⟩)
    rw [nI_clamp (show c < 2 ^ 31 by omega)]
    refine nm_e (H1 c _ hc g.2.2.1 g.2.2.2 ⟨rfl, hU, hC, ⟨va_up F s l, fun t ht => ?_⟩, hI, hH, hX⟩)
    by_cases et : t = s
    · rw [et, sk_us, pk_us]
      refine ⟨f1.2.2, hn.2, fun x hx => ?_⟩
      have g' := f3 x (List.mem_cons_of_mem c hx)
      exact ⟨g'.1, fun z => hn.1 (by rw [← z]; exact hx), g'.2.2.1, g'.2.2.2⟩
    · rw [sk_un et, pk_un et]
      obtain ⟨t1, t2, t3⟩ := hF t ht
      refine ⟨t1, t2, fun x hx => ?_⟩
      have g' := t3 x hx
      exact ⟨g'.1, fun z => et ((nI_eq (by omega) (by omega)).mp (g'.2.2.2.symm.trans (by rw [z]; exact g.2.2.2))), g'.2.2.1, g'.2.2.2⟩
theorem sk_room14 {post : Int32 → St1 → Prop} {cl : Int64} {nu : Int32} {a1 : Nat → Int32} {a2 : Nat → Int32} {a3 : Nat → Int32} {a4 : Nat → Int32} {a5 : Nat → Int32} {a6 : Nat → Int32} {a7 : Nat → Int32} {a8 : Nat → Int64} {a9 : Nat → Int32} {a10 : Nat → Int32} {a11 : Nat → Int32} {a12 : Nat → Int32} {a13 : Nat → Int32} {a14 : Nat → Int32} {a15 : Nat → Int32} {a16 : Nat → Int32} {a17 : Nat → Int32} {U : Nat → List Nat} {n s : Nat} (h : sk_iv (cl, nu, nI n, a1, a2, a3, a4, a5, a6, a7, a8, a9, a10, a11, a12, a13, a14, a15, a16, a17) U n 32) (hs3 : s < 3) (H0 : post (-1) (cl, nu, nI n, a1, a2, a3, a4, a5, a6, a7, a8, a9, a10, a11, a12, a13, a14, a15, a16, a17))
    (H1 : ∀ (f n' : Nat) (U' : Nat → List Nat) (a2' : Nat → Int32) (a3' : Nat → Int32) (a4' : Nat → Int32) (a9' : Nat → Int32) (a10' : Nat → Int32) (a11' : Nat → Int32) (a12' : Nat → Int32) (a13' : Nat → Int32) (a14' : Nat → Int32) (a15' : Nat → Int32) (a16' : Nat → Int32) (a17' : Nat → Int32), f < 32 → a4' f ≠ 1 → a1 (f / 4) = nI s →
      sk_iv (cl, nu, nI n', a1, a2', a3', a4', a5, a6, a7, a8, a9', a10', a11', a12', a13', a14', a15', a16', a17') U' n' f → sk_ex U U' a4 a4' a17 a17' s →
      post (nI f) (cl, nu, nI n', a1, a2', a3', a4', a5, a6, a7, a8, a9', a10', a11', a12', a13', a14', a15', a16', a17')) : wX_makeRoom_14 post (nI s) cl nu (nI n) a1 a2 a3 a4 a5 a6 a7 a8 a9 a10 a11 a12 a13 a14 a15 a16 a17 := by
  have h0 := h
  obtain ⟨_, ⟨hR, hL, hM⟩, hC, ⟨F, hF⟩, hI, hH, hX⟩ := h
  have k42 : wX_makeRoom_42 post (nI s) cl nu (nI n) a1 a2 a3 a4 a5 a6 a7 a8 a9 a10 a11 a12 a13 a14 a15 a16 a17 := sk_room42 h0 hs3 (fun _ => H0) (fun f b2 g1 g2 g3 g4 => H1 f n U b2 a3 a4 a9 a10 a11 a12 a13 a14 a15 a16 a17 g1 g2 g3 g4 sk_ex_0)
  unfold wX_makeRoom_14
  rw [nI_clamp (show s < 2 ^ 31 by omega)]
  refine ⟨vp_in_nI hs3 (by omega), br_c (fun _ => k42) (fun _ => ⟨vp_in_nI hs3 (by omega), ?_⟩)⟩
  have hd := (hR.1 s hs3).1
  cases hl : U s with
  | nil =>
    rw [hl] at hd
    have e : a11 s = -1 := hd.2
    rw [e]
    exact br_t (by decide) k42
  | cons c l =>
    have hc : c ∈ U s := by rw [hl]; exact List.mem_cons_self
    rw [hl] at hd
    have e : a11 s = nI c := hd.1
    have hc32 : c < 32 := hd.2.1
    rw [e]
    refine br_f (nI_pos (by omega)) ⟨vp_in_nI hs3 (by omega), ?_⟩
    refine sk_giveUp h0 hs3 hc (by omega) (fun n' b2 b3 b9 b10 b11 b12 b13 b14 b15 b16 b17 q1 q2 q3 q4 => ?_)
    have hx : sk_ex U (va_up U s ((U s).erase c)) a4 (upd a4 c 0) a17 b17 s := ⟨fun t ht => sk_un ht, fun d _ g => (sk_off.mp g).2, q3⟩
    exact sk_room42 q1 hs3 (fun z => absurd (q2.symm.trans z) (sk_ne (by omega))) (fun f e2 g1 g2 g3 g4 => H1 f n' _ e2 b3 _ b9 b10 b11 b12 b13 b14 b15 b16 b17 g1 g2 g3 g4 hx)
theorem sk_makeRoom {post : Int32 → St1 → Prop} {cl : Int64} {nu : Int32} {a1 : Nat → Int32} {a2 : Nat → Int32} {a3 : Nat → Int32} {a4 : Nat → Int32} {a5 : Nat → Int32} {a6 : Nat → Int32} {a7 : Nat → Int32} {a8 : Nat → Int64} {a9 : Nat → Int32} {a10 : Nat → Int32} {a11 : Nat → Int32} {a12 : Nat → Int32} {a13 : Nat → Int32} {a14 : Nat → Int32} {a15 : Nat → Int32} {a16 : Nat → Int32} {a17 : Nat → Int32} {U : Nat → List Nat} {n s : Nat} (h : sk_iv (cl, nu, nI n, a1, a2, a3, a4, a5, a6, a7, a8, a9, a10, a11, a12, a13, a14, a15, a16, a17) U n 32) (hs3 : s < 3)
    (H0 : ∀ (a1' : Nat → Int32) (a2' : Nat → Int32) (a3' : Nat → Int32), sk_iv (cl, nu, nI n, a1', a2', a3', a4, a5, a6, a7, a8, a9, a10, a11, a12, a13, a14, a15, a16, a17) U n 32 → post (-1) (cl, nu, nI n, a1', a2', a3', a4, a5, a6, a7, a8, a9, a10, a11, a12, a13, a14, a15, a16, a17))
    (H1 : ∀ (f n' : Nat) (U' : Nat → List Nat) (a1' : Nat → Int32) (a2' : Nat → Int32) (a3' : Nat → Int32) (a4' : Nat → Int32) (a9' : Nat → Int32) (a10' : Nat → Int32) (a11' : Nat → Int32) (a12' : Nat → Int32) (a13' : Nat → Int32) (a14' : Nat → Int32) (a15' : Nat → Int32) (a16' : Nat → Int32) (a17' : Nat → Int32), f < 32 → a4' f ≠ 1 → a1' (f / 4) = nI s →
      sk_iv (cl, nu, nI n', a1', a2', a3', a4', a5, a6, a7, a8, a9', a10', a11', a12', a13', a14', a15', a16', a17') U' n' f → sk_ex U U' a4 a4' a17 a17' s →
      post (nI f) (cl, nu, nI n', a1', a2', a3', a4', a5, a6, a7, a8, a9', a10', a11', a12', a13', a14', a15', a16', a17')) : wpX_makeRoom post (cl, nu, nI n, a1, a2, a3, a4, a5, a6, a7, a8, a9, a10, a11, a12, a13, a14, a15, a16, a17) (nI s) := by
  unfold wpX_makeRoom
  dsimp only
  rw [nI_clamp (show s < 2 ^ 31 by omega)]
  refine ⟨vp_in_nI hs3 (by omega), br_c (fun _ => ?_) (fun _ => ?_)⟩
  · exact sk_room14 h hs3 (H0 a1 a2 a3 h) (fun f n' U' b2 b3 b4 b9 b10 b11 b12 b13 b14 b15 b16 b17 g1 g2 g3 g4 g5 => H1 f n' U' a1 b2 b3 b4 b9 b10 b11 b12 b13 b14 b15 b16 b17 g1 g2 g3 g4 g5)
  · refine sk_givePage h hs3 (fun b1 b2 b3 q => ?_)
    exact sk_room14 q hs3 (H0 b1 b2 b3 q) (fun f n' U' b2 b3 b4 b9 b10 b11 b12 b13 b14 b15 b16 b17 g1 g2 g3 g4 g5 => H1 f n' U' b1 b2 b3 b4 b9 b10 b11 b12 b13 b14 b15 b16 b17 g1 g2 g3 g4 g5)
/-- enter: the fresh cell c becomes an item of sort s with key k -/
theorem sk_enter {post : St1 → Prop} {cl : Int64} {nu : Int32} {a1 : Nat → Int32} {a2 : Nat → Int32} {a3 : Nat → Int32} {a4 : Nat → Int32} {a5 : Nat → Int32} {a6 : Nat → Int32} {a7 : Nat → Int32} {a8 : Nat → Int64} {a9 : Nat → Int32} {a10 : Nat → Int32} {a11 : Nat → Int32} {a12 : Nat → Int32} {a13 : Nat → Int32} {a14 : Nat → Int32} {a15 : Nat → Int32} {a16 : Nat → Int32} {a17 : Nat → Int32} {U : Nat → List Nat} {n s c k : Nat} (h : sk_iv (cl, nu, nI n, a1, a2, a3, a4, a5, a6, a7, a8, a9, a10, a11, a12, a13, a14, a15, a16, a17) U n c) (hs3 : s < 3) (hc : c < 32) (h4 : a4 c ≠ 1) (h1 : a1 (c / 4) = nI s) (hk : k < 256) (hkey : ∀ d, d < 32 → a4 d = 1 → a5 d ≠ nI k)
    (H : ∀ (a9' : Nat → Int32) (a10' : Nat → Int32) (a11' : Nat → Int32) (a12' : Nat → Int32) (a13' : Nat → Int32) (a14' : Nat → Int32) (a15' : Nat → Int32), a17 c = -1 → sk_iv (cl, nu, nI n, a1, a2, a3, upd a4 c 1, upd a5 c (nI k), a6, a7, vp_updL a8 c 0, a9', a10', a11', a12', a13', a14', a15', a16, a17) (va_up U s (U s ++ [c])) n 32 →
      post (cl, nu, nI n, a1, a2, a3, upd a4 c 1, upd a5 c (nI k), a6, a7, vp_updL a8 c 0, a9', a10', a11', a12', a13', a14', a15', a16, a17)) : wpX_enter post (cl, nu, nI n, a1, a2, a3, a4, a5, a6, a7, a8, a9, a10, a11, a12, a13, a14, a15, a16, a17) (nI c) (nI k) (nI s) := by
  obtain ⟨_, ⟨hR, hL, hM⟩, ⟨C, hC⟩, ⟨F, hF⟩, hI, hH, hX⟩ := h
  have h7 : a17 c = -1 := by
    by_cases z : a17 c = -1
    · exact z
    · exact absurd (hX c hc z) h4
  have ec : (nI c).toNatClampNeg = c := nI_clamp (by omega)
  have es : (nI s).toNatClampNeg = s := nI_clamp (by omega)
  obtain ⟨b, hb, eb⟩ := pk_andE (nI k * 7) (m := 15) 4 (by decide)
  have hb' : b < 16 := hb
  have ebb : (nI b).toNatClampNeg = b := nI_clamp (by omega)
  unfold wpX_enter
  dsimp only
  rw [ec, es, eb, ebb]
  refine ⟨vp_in_nI hc (by omega), nm_e ⟨vp_in_nI hc (by omega), nm_e ⟨vp_in_nI hc (by omega), nm_e ⟨vp_in_nI hb' (by omega), vp_in_nI hc (by omega), nm_e ⟨vp_in_nI hb' (by omega), nm_e ⟨vp_in_nI hs3 (by omega), vp_in_nI hs3 (by omega), nm_e ?_⟩⟩⟩⟩⟩⟩
  refine sk_hangLast hR hs3 hc (fun t ht hm => h4 ((hM t c ht).mp hm).2.1) (fun b11 b12 b13 b14 hR' => ?_)
  refine H (upd a9 b (nI c)) (upd a10 c (a9 b)) b11 b12 b13 b14 (upd a15 s (a15 s + 1)) h7 ⟨rfl, ⟨hR', fun t ht => ?_, fun t x ht => ?_⟩, ⟨va_up C b (c :: C b), fun t ht => ?_⟩, ⟨F, fun t ht => ⟨(hF t ht).1, (hF t ht).2.1, fun x hx => ?_⟩⟩, ⟨fun x hx g => ?_, fun x y hx hy g g' e => ?_, hI.2.2⟩, sk_Hr_a8 hH h7 (fun d hd => pk_uLn hd), fun d hd g => sk_on.mpr (Or.inr (hX d hd g))⟩
  · by_cases et : t = s
    · rw [et, pk_us, sk_us, hL s hs3, List.length_append]
      exact nI_1 _
    · rw [pk_un et, sk_un et]
      exact hL t ht
  · rw [sk_on]
    by_cases et : t = s
    · rw [et, sk_us, List.mem_append, List.mem_singleton, hM s x hs3]
      constructor
      · intro z
        rcases z with z | z
        · exact ⟨z.1, Or.inr z.2.1, z.2.2⟩
        · rw [z]
          exact ⟨hc, Or.inl rfl, h1⟩
      · intro z
        rcases z.2.1 with y | y
        · exact Or.inr y
        · exact Or.inl ⟨z.1, y, z.2.2⟩
    · rw [sk_un et, hM t x ht]
      constructor
      · intro z
        exact ⟨z.1, Or.inr z.2.1, z.2.2⟩
      · intro z
        rcases z.2.1 with y | y
        · have g := z.2.2
          rw [y] at g
          exact absurd ((nI_eq (by omega) (by omega)).mp (g.symm.trans h1)) et
        · exact ⟨z.1, y, z.2.2⟩
  · obtain ⟨t1, t2, t3⟩ := hC t ht
    have out : ∀ j, j ∈ C t → j ≠ c := fun j hj z => h4 (by rw [← z]; exact ((t3 j).mp hj).2.1)
    by_cases et : t = b
    · rw [et, sk_us, pk_us]
      rw [et] at t1 t2 t3 out
      refine ⟨⟨rfl, hc, ?_⟩, List.nodup_cons.mpr ⟨fun hm => out c hm rfl, t2⟩, fun x => ?_⟩
      · rw [pk_us]
        exact sk_ch_ext (fun j hj => pk_un (out j hj)) t1
      · rw [List.mem_cons, sk_on, t3 x]
        by_cases ex : x = c
        · rw [ex, pk_us]
          exact ⟨fun _ => ⟨hc, Or.inl rfl, eb⟩, fun _ => Or.inl rfl⟩
        · rw [pk_un ex]
          exact ⟨fun z => (z.resolve_left ex).imp id (fun y => ⟨Or.inr y.1, y.2⟩), fun z => Or.inr ⟨z.1, z.2.1.resolve_left ex, z.2.2⟩⟩
    · rw [sk_un et, pk_un et]
      refine ⟨sk_ch_ext (fun j hj => pk_un (out j hj)) t1, t2, fun x => ?_⟩
      rw [sk_on, t3 x]
      by_cases ex : x = c
      · rw [ex, pk_us]
        exact ⟨fun z => absurd z.2.1 h4, fun z => absurd ((nI_eq (by omega) (by omega)).mp (z.2.2.symm.trans eb)) et⟩
      · rw [pk_un ex]
        exact ⟨fun z => ⟨z.1, Or.inr z.2.1, z.2.2⟩, fun z => ⟨z.1, z.2.1.resolve_left ex, z.2.2⟩⟩
  · have g := (hF t ht).2.2 x hx
    exact ⟨g.1, by omega, fun z => (sk_on.mp z).elim g.2.1 g.2.2.1, g.2.2.2⟩
  · by_cases ex : x = c
    · rw [ex, pk_us]
      exact ⟨⟨k, hk, rfl⟩, s, hs3, h1⟩
    · rw [pk_un ex]
      exact hI.1 x hx ((sk_on.mp g).resolve_left ex)
  · by_cases ex : x = c
    · by_cases ey : y = c
      · rw [ex, ey]
      · rw [ex, pk_us, pk_un ey] at e
        exact absurd e.symm (hkey y hy ((sk_on.mp g').resolve_left ey))
    · by_cases ey : y = c
      · rw [ey, pk_us, pk_un ex] at e
        exact absurd e (hkey x hx ((sk_on.mp g).resolve_left ex))
      · rw [pk_un ex, pk_un ey] at e
        exact hI.2.1 x y hx hy ((sk_on.mp g).resolve_left ex) ((sk_on.mp g').resolve_left ey) e
end
section
/-! the whole state between two calls: T is the clock; who is in the heap has its end ahead -/
def sk_J (u : St1) (U : Nat → List Nat) (T : Nat) : Prop := (∃ n, sk_iv u U n 32) ∧ match u with
  | (cl, nu, hs, a1, a2, a3, a4, a5, a6, a7, a8, a9, a10, a11, a12, a13, a14, a15, a16, a17) => cl = lN T ∧ ∀ c, c < 32 → a17 c ≠ -1 → lN T < a8 c
theorem sk_J_mk {nu : Int32} {a1 : Nat → Int32} {a2 : Nat → Int32} {a3 : Nat → Int32} {a4 : Nat → Int32} {a5 : Nat → Int32} {a6 : Nat → Int32} {a7 : Nat → Int32} {a8 : Nat → Int64} {a9 : Nat → Int32} {a10 : Nat → Int32} {a11 : Nat → Int32} {a12 : Nat → Int32} {a13 : Nat → Int32} {a14 : Nat → Int32} {a15 : Nat → Int32} {a16 : Nat → Int32} {a17 : Nat → Int32} {U : Nat → List Nat} {n T : Nat} (h : sk_iv (lN T, nu, nI n, a1, a2, a3, a4, a5, a6, a7, a8, a9, a10, a11, a12, a13, a14, a15, a16, a17) U n 32) (hf : ∀ c, c < 32 → a17 c ≠ -1 → lN T < a8 c) : sk_J (lN T, nu, nI n, a1, a2, a3, a4, a5, a6, a7, a8, a9, a10, a11, a12, a13, a14, a15, a16, a17) U T := ⟨⟨n, h⟩, rfl, hf⟩
theorem sk_U_use {U : Nat → List Nat} {a1 a4 a11 a12 a13 a14 a15 b11 b12 b13 b14 : Nat → Int32} {s c : Nat} (h : sk_U U a1 a4 a11 a12 a13 a14 a15) (hs3 : s < 3) (hc : c ∈ U s) (hR : sk_R (va_up U s ((U s).erase c ++ [c])) b11 b12 b13 b14) :
    sk_U (va_up U s ((U s).erase c ++ [c])) a1 a4 b11 b12 b13 b14 a15 := by
  obtain ⟨hR0, hL, hM⟩ := h
  refine ⟨hR, fun t ht => ?_, fun t x ht => ?_⟩
  · by_cases et : t = s
    · rw [et, sk_us, hL s hs3, List.length_append, List.length_erase_of_mem hc, List.length_singleton, Nat.sub_add_cancel (List.length_pos_of_mem hc)]
    · rw [sk_un et]
      exact hL t ht
  · by_cases et : t = s
    · rw [et, sk_us, List.mem_append, List.mem_singleton, (hR0.1 s hs3).2.mem_erase_iff, ← hM s x hs3]
      constructor
      · intro z
        rcases z with z | z
        · exact z.2
        · rw [z]; exact hc
      · intro z
        by_cases e : x = c
        · exact Or.inr e
        · exact Or.inl ⟨e, z⟩
    · rw [sk_un et]
      exact hM t x ht
theorem sk_later {T t : Nat} (hT : T < 2 ^ 31) (ht : t ≤ 1000) (h0 : 0 < t) : lN T < lN T + (nI t).toInt64 := by
  rw [nI_l (by omega), lN_add]
  exact (pk_lLT (by omega) (by omega)).mpr (by omega)
/-- use alone -/
theorem sk_J_use {cl : Int64} {nu : Int32} {a1 : Nat → Int32} {a2 : Nat → Int32} {a3 : Nat → Int32} {a4 : Nat → Int32} {a5 : Nat → Int32} {a6 : Nat → Int32} {a7 : Nat → Int32} {a8 : Nat → Int64} {a9 : Nat → Int32} {a10 : Nat → Int32} {a11 : Nat → Int32} {a12 : Nat → Int32} {a13 : Nat → Int32} {a14 : Nat → Int32} {a15 : Nat → Int32} {a16 : Nat → Int32} {a17 : Nat → Int32} {U : Nat → List Nat} {s c n T : Nat} (h : sk_J (cl, nu, nI n, a1, a2, a3, a4, a5, a6, a7, a8, a9, a10, a11, a12, a13, a14, a15, a16, a17) U T) (hs3 : s < 3) (hc : c ∈ U s) {b11 b12 b13 b14 : Nat → Int32} (hR : sk_R (va_up U s ((U s).erase c ++ [c])) b11 b12 b13 b14) :
    sk_J (cl, nu, nI n, a1, a2, a3, a4, a5, a6, a7, a8, a9, a10, b11, b12, b13, b14, a15, a16, a17) (va_up U s ((U s).erase c ++ [c])) T := by
  obtain ⟨⟨m, e, hU, hC, hF, hI, hH, hX⟩, hcl, hf⟩ := h
  exact ⟨⟨m, e, sk_U_use hU hs3 hc hR, hC, hF, hI, hH, hX⟩, hcl, hf⟩
/-- use, then setEnd -/
theorem sk_J_end {nu : Int32} {a1 : Nat → Int32} {a2 : Nat → Int32} {a3 : Nat → Int32} {a4 : Nat → Int32} {a5 : Nat → Int32} {a6 : Nat → Int32} {a7 : Nat → Int32} {a8 : Nat → Int64} {a9 : Nat → Int32} {a10 : Nat → Int32} {a11 : Nat → Int32} {a12 : Nat → Int32} {a13 : Nat → Int32} {a14 : Nat → Int32} {a15 : Nat → Int32} {a16 : Nat → Int32} {a17 : Nat → Int32} {U : Nat → List Nat} {s c n n' T t : Nat} (h : sk_iv (lN T, nu, nI n, a1, a2, a3, a4, a5, a6, a7, a8, a9, a10, a11, a12, a13, a14, a15, a16, a17) U n 32) (hf : ∀ c, c < 32 → a17 c ≠ -1 → lN T < a8 c) (hs3 : s < 3) (hc : c ∈ U s) (hT : T < 2 ^ 31) (ht : t ≤ 1000) {b11 b12 b13 b14 b16 b17 : Nat → Int32} {b8 : Nat → Int64}
    (hR : sk_R (va_up U s ((U s).erase c ++ [c])) b11 b12 b13 b14) (q1 : sk_Hr n' b8 b16 b17) (q2 : ∀ d, d < 32 → d ≠ c → b8 d = a8 d ∧ (b17 d = -1 ↔ a17 d = -1)) (q3 : b17 c ≠ -1 → 0 < t ∧ b8 c = lN T + (nI t).toInt64) :
    sk_J (lN T, nu, nI n', a1, a2, a3, a4, a5, a6, a7, b8, a9, a10, b11, b12, b13, b14, a15, b16, b17) (va_up U s ((U s).erase c ++ [c])) T := by
  obtain ⟨e, hU, hC, hF, hI, hH, hX⟩ := h
  have h4 : a4 c = 1 := ((hU.2.2 s c hs3).mp hc).2.1
  refine ⟨⟨n', rfl, sk_U_use hU hs3 hc hR, hC, hF, hI, q1, fun d hd g => ?_⟩, rfl, fun d hd g => ?_⟩
  · by_cases ed : d = c
    · rw [ed]; exact h4
    · exact hX d hd (fun z => g ((q2 d hd ed).2.mpr z))
  · by_cases ed : d = c
    · rw [ed] at g ⊢
      rw [(q3 g).2]
      exact sk_later hT ht (q3 g).1
    · rw [(q2 d hd ed).1]
      exact hf d hd (fun z => g ((q2 d hd ed).2.mpr z))
theorem sk_number {post : Int32 → St1 → Prop} {cl : Int64} {nu hs : Int32} {a1 a2 a3 a4 a5 a6 a7 : Nat → Int32} {a8 : Nat → Int64} {a9 a10 a11 a12 a13 a14 a15 a16 a17 : Nat → Int32} {c : Nat} (hc : c < 32) (H : post (nu + 1) (cl, nu + 1, hs, a1, a2, a3, a4, a5, a6, upd a7 c (nu + 1), a8, a9, a10, a11, a12, a13, a14, a15, a16, a17)) : wpX_nextNumber post (cl, nu, hs, a1, a2, a3, a4, a5, a6, a7, a8, a9, a10, a11, a12, a13, a14, a15, a16, a17) (nI c) := by
  unfold wpX_nextNumber
  dsimp only
  rw [nI_clamp (show c < 2 ^ 31 by omega)]
  exact nm_e ⟨vp_in_nI hc (by omega), nm_e H⟩
theorem sk_store125 {post : Int32 → St1 → Prop} {nu : Int32} {a1 : Nat → Int32} {a2 : Nat → Int32} {a3 : Nat → Int32} {a4 : Nat → Int32} {a5 : Nat → Int32} {a6 : Nat → Int32} {a7 : Nat → Int32} {a8 : Nat → Int64} {a9 : Nat → Int32} {a10 : Nat → Int32} {a11 : Nat → Int32} {a12 : Nat → Int32} {a13 : Nat → Int32} {a14 : Nat → Int32} {a15 : Nat → Int32} {a16 : Nat → Int32} {a17 : Nat → Int32} {U : Nat → List Nat} {s c n T t : Nat} {v : Int32} (h : sk_iv (lN T, nu, nI n, a1, a2, a3, a4, a5, a6, a7, a8, a9, a10, a11, a12, a13, a14, a15, a16, a17) U n 32) (hf : ∀ c, c < 32 → a17 c ≠ -1 → lN T < a8 c) (hs3 : s < 3) (hc : c ∈ U s) (hT : T < 2 ^ 31) (ht : t ≤ 1000)
    (H : ∀ r u U', sk_J u U' T → post r u) : wX_store_125 post v (nI t) (nI c) (lN T) nu (nI n) a1 a2 a3 a4 a5 a6 a7 a8 a9 a10 a11 a12 a13 a14 a15 a16 a17 := by
  have h0 := h
  obtain ⟨e, ⟨hR, hL, hM⟩, hC, hF, hI, hH, hX⟩ := h
  obtain ⟨hc32, h4, h1⟩ := (hM s c hs3).mp hc
  unfold wX_store_125
  refine ⟨vp_in_nI hc32 (by omega), nm_e ?_⟩
  refine sk_use hR hs3 hc h1 (fun b11 b12 b13 b14 hR' => ?_)
  refine sk_setEnd hH hc32 (by omega) (fun n' b8 b16 b17 q1 q2 q3 => ?_)
  refine sk_number hc32 ?_
  exact H _ _ _ (sk_J_end (U := U) h0 hf hs3 hc hT ht hR' q1 q2 q3)
theorem sk_store112 {post : Int32 → St1 → Prop} {nu : Int32} {a1 : Nat → Int32} {a2 : Nat → Int32} {a3 : Nat → Int32} {a4 : Nat → Int32} {a5 : Nat → Int32} {a6 : Nat → Int32} {a7 : Nat → Int32} {a8 : Nat → Int64} {a9 : Nat → Int32} {a10 : Nat → Int32} {a11 : Nat → Int32} {a12 : Nat → Int32} {a13 : Nat → Int32} {a14 : Nat → Int32} {a15 : Nat → Int32} {a16 : Nat → Int32} {a17 : Nat → Int32} {U : Nat → List Nat} {s c n T t k : Nat} {v : Int32} (h : sk_iv (lN T, nu, nI n, a1, a2, a3, a4, a5, a6, a7, a8, a9, a10, a11, a12, a13, a14, a15, a16, a17) U n c) (hf : ∀ c, c < 32 → a17 c ≠ -1 → lN T < a8 c) (hs3 : s < 3) (hc : c < 32) (h4 : a4 c ≠ 1) (h1 : a1 (c / 4) = nI s)
    (hk : k < 256) (hkey : ∀ d, d < 32 → a4 d = 1 → a5 d ≠ nI k) (hT : T < 2 ^ 31) (ht : t ≤ 1000) (H : ∀ r u U', sk_J u U' T → post r u) : wX_store_112 post (nI k) v (nI t) (nI s) (nI c) (lN T) nu (nI n) a1 a2 a3 a4 a5 a6 a7 a8 a9 a10 a11 a12 a13 a14 a15 a16 a17 := by
  unfold wX_store_112
  refine sk_enter h hs3 hc h4 h1 hk hkey (fun b9 b10 b11 b12 b13 b14 b15 h7 q => ?_)
  refine sk_store125 q (fun d hd g => ?_) hs3 (by rw [sk_us]; exact List.mem_append.mpr (Or.inr (List.mem_singleton.mpr rfl))) hT ht H
  rw [pk_uLn (fun z => g (by rw [z]; exact h7))]
  exact hf d hd g
theorem sk_store85 {post : Int32 → St1 → Prop} {nu : Int32} {a1 : Nat → Int32} {a2 : Nat → Int32} {a3 : Nat → Int32} {a4 : Nat → Int32} {a5 : Nat → Int32} {a6 : Nat → Int32} {a7 : Nat → Int32} {a8 : Nat → Int64} {a9 : Nat → Int32} {a10 : Nat → Int32} {a11 : Nat → Int32} {a12 : Nat → Int32} {a13 : Nat → Int32} {a14 : Nat → Int32} {a15 : Nat → Int32} {a16 : Nat → Int32} {a17 : Nat → Int32} {U : Nat → List Nat} {s n T t k : Nat} {v x6 : Int32} (h : sk_iv (lN T, nu, nI n, a1, a2, a3, a4, a5, a6, a7, a8, a9, a10, a11, a12, a13, a14, a15, a16, a17) U n 32) (hf : ∀ c, c < 32 → a17 c ≠ -1 → lN T < a8 c) (hs3 : s < 3) (hk : k < 256) (hT : T < 2 ^ 31) (ht : t ≤ 1000)
    (hx : (x6 = -1 ∧ ∀ d, d < 32 → a4 d = 1 → a5 d ≠ nI k) ∨ ∃ c r, c < 32 ∧ x6 = nI c ∧ r < 3 ∧ r ≠ s ∧ c ∈ U r ∧ a5 c = nI k) (H : ∀ r u U', sk_J u U' T → post r u) : wX_store_85 post (nI k) v (nI t) (nI s) x6 (lN T) nu (nI n) a1 a2 a3 a4 a5 a6 a7 a8 a9 a10 a11 a12 a13 a14 a15 a16 a17 := by
  unfold wX_store_85
  refine sk_makeRoom h hs3 (fun b1 b2 b3 q => ?_) (fun f n' U' b1 b2 b3 b4 b9 b10 b11 b12 b13 b14 b15 b16 b17 g1 g2 g3 g4 g5 => ?_)
  · exact br_f (by decide) (H _ _ U (sk_J_mk q hf))
  · refine br_t (nI_pos' (by omega)) ?_
    have hf' : ∀ d, d < 32 → b17 d ≠ -1 → lN T < a8 d := fun d hd z => hf d hd (g5.2.2 d hd z)
    rcases hx with ⟨e, hno⟩ | ⟨c, r, hc, e, hr, hrs, hcr, hck⟩
    · subst e
      exact br_t (by decide) (sk_store112 g4 hf' hs3 g1 g2 g3 hk (fun d hd z => hno d hd (g5.2.1 d hd z)) hT ht H)
    · subst e
      obtain ⟨_, hU, hC, hF, hI, hH, hX⟩ := h
      have hcr' : c ∈ U' r := by rw [g5.1 r hrs]; exact hcr
      have h4c : a4 c = 1 := ((hU.2.2 r c hr).mp hcr).2.1
      have h4c' : b4 c = 1 := ((g4.2.1.2.2 r c hr).mp hcr').2.1
      have hcf : c ≠ f := fun z => g2 (by rw [← z]; exact h4c')
      refine br_f (nI_pos (by omega)) ?_
      refine sk_giveUp g4 hr hcr' hcf (fun n2 e2 e3 e9 e10 e11 e12 e13 e14 e15 e16 e17 q1 q2 q3 q4 => ?_)
      refine sk_store112 q1 (fun d hd z => hf' d hd (q3 d hd z)) hs3 g1 (fun z => g2 (sk_off.mp z).2) g3 hk (fun d hd z z' => ?_) hT ht H
      have z2 := sk_off.mp z
      exact z2.1 (hI.2.1 d c hd hc (g5.2.1 d hd z2.2) h4c (z'.trans hck.symm))
theorem sk_store57 {post : Int32 → St1 → Prop} {nu : Int32} {a1 : Nat → Int32} {a2 : Nat → Int32} {a3 : Nat → Int32} {a4 : Nat → Int32} {a5 : Nat → Int32} {a6 : Nat → Int32} {a7 : Nat → Int32} {a8 : Nat → Int64} {a9 : Nat → Int32} {a10 : Nat → Int32} {a11 : Nat → Int32} {a12 : Nat → Int32} {a13 : Nat → Int32} {a14 : Nat → Int32} {a15 : Nat → Int32} {a16 : Nat → Int32} {a17 : Nat → Int32} {U : Nat → List Nat} {s n T t k : Nat} {v : Int32} (h : sk_iv (lN T, nu, nI n, a1, a2, a3, a4, a5, a6, a7, a8, a9, a10, a11, a12, a13, a14, a15, a16, a17) U n 32) (hf : ∀ c, c < 32 → a17 c ≠ -1 → lN T < a8 c) (hs3 : s < 3) (hk : k < 256) (hT : T < 2 ^ 31) (ht : t ≤ 1000)
    (H : ∀ r u U', sk_J u U' T → post r u) : wX_store_57 post (nI k) v (nI t) (nI s) (lN T) nu (nI n) a1 a2 a3 a4 a5 a6 a7 a8 a9 a10 a11 a12 a13 a14 a15 a16 a17 := by
  have h0 := h
  obtain ⟨_, hU, hC, hF, hI, hH, hX⟩ := h
  unfold wX_store_57
  refine sk_find hC hI (fun c hc h4 hck => ?_) (fun hno => ?_)
  · obtain ⟨r, hr, h1⟩ := (hI.1 c hc h4).2
    have hcr : c ∈ U r := (hU.2.2 r c hr).mpr ⟨hc, h4, h1⟩
    rw [sk_shr hc, nI_clamp (show c / 4 < 2 ^ 31 by omega), h1]
    refine br_f (nI_pos (by omega)) ⟨vp_in_nI (by omega) (by omega), pk_eq r s (fun z => ?_) (fun z => ?_)⟩
    · rw [z] at hcr
      exact sk_store125 h0 hf hs3 hcr hT ht H
    · exact sk_store85 h0 hf hs3 hk hT ht (Or.inr ⟨c, r, hc, rfl, hr, z, hcr, hck⟩) H
  · exact br_t (by decide) (sk_store85 h0 hf hs3 hk hT ht (Or.inl ⟨rfl, hno⟩) H)
theorem sk_store {post : Int32 → St1 → Prop} {u : St1} {U : Nat → List Nat} {T : Nat} (p0 p1 p2 p3 : Int32) (h : sk_J u U T) (hT : T < 2 ^ 31) (H : ∀ r u U', sk_J u U' T → post r u) : wpX_store post u p0 p1 p2 p3 := by
  obtain ⟨cl, nu, hs, a1, a2, a3, a4, a5, a6, a7, a8, a9, a10, a11, a12, a13, a14, a15, a16, a17⟩ := u
  have h0 := h
  obtain ⟨⟨n, hi⟩, hcl, hf⟩ := h
  have hn : hs = nI n := hi.1
  subst hn
  subst hcl
  unfold wpX_store
  dsimp only
  refine br_c (fun _ => H _ _ U h0) (fun z1 => br_c (fun _ => H _ _ U h0) (fun z2 => br_c (fun _ => H _ _ U h0) (fun z3 => br_c (fun _ => H _ _ U h0) (fun z4 => br_c (fun _ => H _ _ U h0) (fun z5 => br_c (fun z6 => ?_) (fun _ => H _ _ U h0))))))
  obtain ⟨k, hk, rfl⟩ := nI_of2 (M := 255) (n := 255) (by decide) z1 (Int32.not_lt.mp z2)
  obtain ⟨t, ht, rfl⟩ := nI_of2 (M := 1000) (n := 1000) (by decide) z5 z6
  refine br_c (fun _ => br_c (fun _ => ?_) (fun _ => ?_)) (fun _ => ?_)
  · exact sk_store57 (s := 2) hi hf (by omega) (by omega) hT ht H
  · exact sk_store57 (s := 1) hi hf (by omega) (by omega) hT ht H
  · exact sk_store57 (s := 0) hi hf (by omega) (by omega) hT ht H
end
section
/-! the other calls -/
theorem sk_ne1 (x : Int32) : ¬ x = x + 1 := by
  intro h
  have h2 : x - x = x + 1 - x := congrArg (fun y => y - x) h
  rw [Int32.sub_self, Int32.add_comm x 1, Int32.add_sub_cancel] at h2
  exact absurd h2 (by decide)
/-- what find answers -/
theorem sk_findF {post : Int32 → Prop} {cl : Int64} {nu hs : Int32} {a1 a2 a3 a4 a5 a6 a7 : Nat → Int32} {a8 : Nat → Int64} {a9 a10 a11 a12 a13 a14 a15 a16 a17 : Nat → Int32} {U : Nat → List Nat} {T c : Nat} (h : sk_J (cl, nu, hs, a1, a2, a3, a4, a5, a6, a7, a8, a9, a10, a11, a12, a13, a14, a15, a16, a17) U T) (hc : c < 32) (h4 : a4 c = 1) (H : post (nI c)) : wpX_find post (cl, nu, hs, a1, a2, a3, a4, a5, a6, a7, a8, a9, a10, a11, a12, a13, a14, a15, a16, a17) (a5 c) := by
  obtain ⟨⟨n, e, hU, hC, hF, hI, hH, hX⟩, hcl, hf⟩ := h
  refine sk_find hC hI (fun d hd hd4 hk => ?_) (fun hno => absurd rfl (hno c hc h4))
  rw [hI.2.1 d c hd hc hd4 h4 hk]
  exact H
theorem sk_findN {post : Int32 → Prop} {cl : Int64} {nu hs : Int32} {a1 a2 a3 a4 a5 a6 a7 : Nat → Int32} {a8 : Nat → Int64} {a9 a10 a11 a12 a13 a14 a15 a16 a17 : Nat → Int32} {U : Nat → List Nat} {T : Nat} {key : Int32} (h : sk_J (cl, nu, hs, a1, a2, a3, a4, a5, a6, a7, a8, a9, a10, a11, a12, a13, a14, a15, a16, a17) U T) (hno : ∀ c, c < 32 → a4 c = 1 → a5 c ≠ key) (H : post (-1)) : wpX_find post (cl, nu, hs, a1, a2, a3, a4, a5, a6, a7, a8, a9, a10, a11, a12, a13, a14, a15, a16, a17) key := by
  obtain ⟨⟨n, e, hU, hC, hF, hI, hH, hX⟩, hcl, hf⟩ := h
  exact sk_find hC hI (fun d hd hd4 hk => absurd hk (hno d hd hd4)) (fun _ => H)
theorem sk_sort {cl : Int64} {nu hs : Int32} {a1 a2 a3 a4 a5 a6 a7 : Nat → Int32} {a8 : Nat → Int64} {a9 a10 a11 a12 a13 a14 a15 a16 a17 : Nat → Int32} {U : Nat → List Nat} {T c : Nat} (h : sk_J (cl, nu, hs, a1, a2, a3, a4, a5, a6, a7, a8, a9, a10, a11, a12, a13, a14, a15, a16, a17) U T) (hc : c < 32) (h4 : a4 c = 1) : ∃ s, s < 3 ∧ c ∈ U s := by
  obtain ⟨⟨n, e, hU, hC, hF, hI, hH, hX⟩, hcl, hf⟩ := h
  obtain ⟨s, hs3, h1⟩ := (hI.1 c hc h4).2
  exact ⟨s, hs3, (hU.2.2 s c hs3).mpr ⟨hc, h4, h1⟩⟩
theorem sk_item {cl : Int64} {nu hs : Int32} {a1 a2 a3 a4 a5 a6 a7 : Nat → Int32} {a8 : Nat → Int64} {a9 a10 a11 a12 a13 a14 a15 a16 a17 : Nat → Int32} {U : Nat → List Nat} {T c s : Nat} (h : sk_J (cl, nu, hs, a1, a2, a3, a4, a5, a6, a7, a8, a9, a10, a11, a12, a13, a14, a15, a16, a17) U T) (hs3 : s < 3) (hc : c ∈ U s) : c < 32 ∧ a4 c = 1 ∧ a1 (c / 4) = nI s ∧ ¬ a5 c < 0 := by
  obtain ⟨⟨n, e, hU, hC, hF, hI, hH, hX⟩, hcl, hf⟩ := h
  obtain ⟨g1, g2, g3⟩ := (hU.2.2 s c hs3).mp hc
  obtain ⟨k, hk, ek⟩ := (hI.1 c g1 g2).1
  exact ⟨g1, g2, g3, by rw [ek]; exact nI_pos (by omega)⟩
/-- the key that oldest answers -/
def sk_first (a5 : Nat → Int32) : List Nat → Int32
  | [] => -1
  | c :: _ => a5 c
theorem sk_oldest {post : Int32 → Prop} {cl : Int64} {nu hs : Int32} {a1 a2 a3 a4 a5 a6 a7 : Nat → Int32} {a8 : Nat → Int64} {a9 a10 a11 a12 a13 a14 a15 a16 a17 : Nat → Int32} {U : Nat → List Nat} {T s : Nat} (h : sk_J (cl, nu, hs, a1, a2, a3, a4, a5, a6, a7, a8, a9, a10, a11, a12, a13, a14, a15, a16, a17) U T) (hs3 : s < 3) (H : post (sk_first a5 (U s))) : wpX_oldest post (cl, nu, hs, a1, a2, a3, a4, a5, a6, a7, a8, a9, a10, a11, a12, a13, a14, a15, a16, a17) (nI s) := by
  obtain ⟨⟨n, e, ⟨hR, hL, hM⟩, hC, hF, hI, hH, hX⟩, hcl, hf⟩ := h
  unfold wpX_oldest
  dsimp only
  rw [nI_clamp (show s < 2 ^ 31 by omega)]
  refine br_f (nI_pos (by omega)) (br_f (nI_nlt (a := 2) (b := s) (by omega) (by omega)) ⟨vp_in_nI hs3 (by omega), ?_⟩)
  have hd := (hR.1 s hs3).1
  cases hl : U s with
  | nil =>
    rw [hl] at hd H
    have e : a11 s = -1 := hd.2
    rw [e]
    exact br_f (by decide) H
  | cons c l =>
    rw [hl] at hd H
    have e : a11 s = nI c := hd.1
    have hc : c < 32 := hd.2.1
    rw [e, nI_clamp (show c < 2 ^ 31 by omega)]
    exact br_t (nI_pos' (by omega)) ⟨vp_in_nI hs3 (by omega), vp_in_nI hc (by omega), H⟩
theorem sk_items {post : Int32 → Prop} {cl : Int64} {nu hs : Int32} {a1 a2 a3 a4 a5 a6 a7 : Nat → Int32} {a8 : Nat → Int64} {a9 a10 a11 a12 a13 a14 a15 a16 a17 : Nat → Int32} {U : Nat → List Nat} {T s : Nat} (h : sk_J (cl, nu, hs, a1, a2, a3, a4, a5, a6, a7, a8, a9, a10, a11, a12, a13, a14, a15, a16, a17) U T) (hs3 : s < 3) (H : post (nI (U s).length)) : wpX_items post (cl, nu, hs, a1, a2, a3, a4, a5, a6, a7, a8, a9, a10, a11, a12, a13, a14, a15, a16, a17) (nI s) := by
  obtain ⟨⟨n, e, ⟨hR, hL, hM⟩, hC, hF, hI, hH, hX⟩, hcl, hf⟩ := h
  unfold wpX_items
  dsimp only
  rw [nI_clamp (show s < 2 ^ 31 by omega), hL s hs3]
  exact br_f (nI_pos (by omega)) (br_t (nI_le (b := 2) (by omega) (by omega)) ⟨vp_in_nI hs3 (by omega), H⟩)
theorem sk_get {post : Int32 → St1 → Prop} {cl : Int64} {nu hs : Int32} {a1 a2 a3 a4 a5 a6 a7 : Nat → Int32} {a8 : Nat → Int64} {a9 a10 a11 a12 a13 a14 a15 a16 a17 : Nat → Int32} {U : Nat → List Nat} {T : Nat} {key : Int32} (h : sk_J (cl, nu, hs, a1, a2, a3, a4, a5, a6, a7, a8, a9, a10, a11, a12, a13, a14, a15, a16, a17) U T) (Hn : (∀ c, c < 32 → a4 c = 1 → a5 c ≠ key) → post 0 (cl, nu, hs, a1, a2, a3, a4, a5, a6, a7, a8, a9, a10, a11, a12, a13, a14, a15, a16, a17))
    (Hf : ∀ (c s : Nat) (a11' : Nat → Int32) (a12' : Nat → Int32) (a13' : Nat → Int32) (a14' : Nat → Int32), c < 32 → s < 3 → c ∈ U s → a5 c = key → sk_J (cl, nu, hs, a1, a2, a3, a4, a5, a6, a7, a8, a9, a10, a11', a12', a13', a14', a15, a16, a17) (va_up U s ((U s).erase c ++ [c])) T → post (a6 c) (cl, nu, hs, a1, a2, a3, a4, a5, a6, a7, a8, a9, a10, a11', a12', a13', a14', a15, a16, a17)) : wpX_get post (cl, nu, hs, a1, a2, a3, a4, a5, a6, a7, a8, a9, a10, a11, a12, a13, a14, a15, a16, a17) key := by
  have h0 := h
  obtain ⟨⟨n, e, ⟨hR, hL, hM⟩, hC, hF, hI, hH, hX⟩, hcl, hf⟩ := h
  unfold wpX_get
  dsimp only
  refine sk_find hC hI (fun c hc h4 hk => ?_) (fun hno => br_f (by decide) (Hn hno))
  obtain ⟨s, hs3, hcs⟩ := sk_sort h0 hc h4
  refine br_t (nI_pos' (by omega)) ?_
  refine sk_use hR hs3 hcs ((hM s c hs3).mp hcs).2.2 (fun b11 b12 b13 b14 hR' => ⟨vp_in_nI hc (by omega), ?_⟩)
  rw [nI_clamp (show c < 2 ^ 31 by omega)]
  subst e
  exact Hf c s b11 b12 b13 b14 hc hs3 hcs hk (sk_J_use h0 hs3 hcs hR')
theorem sk_add {post : Int32 → St1 → Prop} {cl : Int64} {nu hs : Int32} {a1 a2 a3 a4 a5 a6 a7 : Nat → Int32} {a8 : Nat → Int64} {a9 a10 a11 a12 a13 a14 a15 a16 a17 : Nat → Int32} {U : Nat → List Nat} {T : Nat} {key m : Int32} (h : sk_J (cl, nu, hs, a1, a2, a3, a4, a5, a6, a7, a8, a9, a10, a11, a12, a13, a14, a15, a16, a17) U T) (Hn : (∀ c, c < 32 → a4 c = 1 → a5 c ≠ key) → post 0 (cl, nu, hs, a1, a2, a3, a4, a5, a6, a7, a8, a9, a10, a11, a12, a13, a14, a15, a16, a17))
    (Hf : ∀ (c s : Nat) (a11' : Nat → Int32) (a12' : Nat → Int32) (a13' : Nat → Int32) (a14' : Nat → Int32), c < 32 → s < 3 → c ∈ U s → a5 c = key → sk_J (cl, nu + 1, hs, a1, a2, a3, a4, a5, upd a6 c (a6 c + m), upd a7 c (nu + 1), a8, a9, a10, a11', a12', a13', a14', a15, a16, a17) (va_up U s ((U s).erase c ++ [c])) T →
      post (a6 c + m) (cl, nu + 1, hs, a1, a2, a3, a4, a5, upd a6 c (a6 c + m), upd a7 c (nu + 1), a8, a9, a10, a11', a12', a13', a14', a15, a16, a17)) : wpX_add post (cl, nu, hs, a1, a2, a3, a4, a5, a6, a7, a8, a9, a10, a11, a12, a13, a14, a15, a16, a17) key m := by
  have h0 := h
  obtain ⟨⟨n, e, ⟨hR, hL, hM⟩, hC, hF, hI, hH, hX⟩, hcl, hf⟩ := h
  unfold wpX_add
  dsimp only
  refine sk_find hC hI (fun c hc h4 hk => ?_) (fun hno => br_f (by decide) (Hn hno))
  obtain ⟨s, hs3, hcs⟩ := sk_sort h0 hc h4
  rw [nI_clamp (show c < 2 ^ 31 by omega)]
  refine br_t (nI_pos' (by omega)) ⟨vp_in_nI hc (by omega), vp_in_nI hc (by omega), nm_e ?_⟩
  refine sk_use hR hs3 hcs ((hM s c hs3).mp hcs).2.2 (fun b11 b12 b13 b14 hR' => ?_)
  refine sk_number hc ⟨vp_in_nI hc (by omega), ?_⟩
  dsimp only
  rw [pk_us]
  subst e
  exact Hf c s b11 b12 b13 b14 hc hs3 hcs hk (sk_J_use h0 hs3 hcs hR')
theorem sk_touch {post : Int32 → St1 → Prop} {cl : Int64} {nu hs : Int32} {a1 a2 a3 a4 a5 a6 a7 : Nat → Int32} {a8 : Nat → Int64} {a9 a10 a11 a12 a13 a14 a15 a16 a17 : Nat → Int32} {U : Nat → List Nat} {T t : Nat} {key : Int32} (h : sk_J (cl, nu, hs, a1, a2, a3, a4, a5, a6, a7, a8, a9, a10, a11, a12, a13, a14, a15, a16, a17) U T) (hT : T < 2 ^ 31) (ht : t ≤ 1000) (Hn : (∀ c, c < 32 → a4 c = 1 → a5 c ≠ key) → post 0 (cl, nu, hs, a1, a2, a3, a4, a5, a6, a7, a8, a9, a10, a11, a12, a13, a14, a15, a16, a17))
    (Hf : ∀ (c s : Nat) (hs' : Int32) (a8' : Nat → Int64) (a11' : Nat → Int32) (a12' : Nat → Int32) (a13' : Nat → Int32) (a14' : Nat → Int32) (a16' : Nat → Int32) (a17' : Nat → Int32), c < 32 → s < 3 → c ∈ U s → a5 c = key → sk_J (cl, nu, hs', a1, a2, a3, a4, a5, a6, a7, a8', a9, a10, a11', a12', a13', a14', a15, a16', a17') (va_up U s ((U s).erase c ++ [c])) T → post 1 (cl, nu, hs', a1, a2, a3, a4, a5, a6, a7, a8', a9, a10, a11', a12', a13', a14', a15, a16', a17')) : wpX_touch post (cl, nu, hs, a1, a2, a3, a4, a5, a6, a7, a8, a9, a10, a11, a12, a13, a14, a15, a16, a17) key (nI t) := by
  have h0 := h
  obtain ⟨⟨n, hi⟩, hcl, hf⟩ := h
  have h1 := hi
  obtain ⟨e, ⟨hR, hL, hM⟩, hC, hF, hI, hH, hX⟩ := hi
  subst e
  subst hcl
  unfold wpX_touch
  dsimp only
  refine br_f (nI_pos (by omega)) (br_t (nI_le (b := 1000) (by omega) (by omega)) ?_)
  refine sk_find hC hI (fun c hc h4 hk => ?_) (fun hno => br_f (by decide) (Hn hno))
  obtain ⟨s, hs3, hcs⟩ := sk_sort h0 hc h4
  refine br_t (nI_pos' (by omega)) ?_
  refine sk_use hR hs3 hcs ((hM s c hs3).mp hcs).2.2 (fun b11 b12 b13 b14 hR' => ?_)
  refine sk_setEnd hH hc (by omega) (fun n' b8 b16 b17 q1 q2 q3 => ?_)
  exact Hf c s (nI n') b8 b11 b12 b13 b14 b16 b17 hc hs3 hcs hk (sk_J_end h1 hf hs3 hcs hT ht hR' q1 q2 q3)
theorem sk_remove {post : Int32 → St1 → Prop} {u : St1} {U : Nat → List Nat} {T : Nat} (key : Int32) (h : sk_J u U T) (H : ∀ r u U', sk_J u U' T → post r u) : wpX_remove post u key := by
  obtain ⟨cl, nu, hs, a1, a2, a3, a4, a5, a6, a7, a8, a9, a10, a11, a12, a13, a14, a15, a16, a17⟩ := u
  have h0 := h
  obtain ⟨⟨n, hi⟩, hcl, hf⟩ := h
  have h1 := hi
  obtain ⟨e, ⟨hR, hL, hM⟩, hC, hF, hI, hH, hX⟩ := hi
  subst e
  subst hcl
  unfold wpX_remove
  dsimp only
  refine sk_find hC hI (fun c hc h4 hk => ?_) (fun hno => br_f (by decide) (H _ _ U h0))
  obtain ⟨s, hs3, hcs⟩ := sk_sort h0 hc h4
  refine br_t (nI_pos' (by omega)) ?_
  refine sk_giveUp h1 hs3 hcs (by omega) (fun n' b2 b3 b9 b10 b11 b12 b13 b14 b15 b16 b17 q1 q2 q3 q4 => ?_)
  exact H _ _ _ (sk_J_mk q1 (fun d hd g => hf d hd (q3 d hd g)))
/-- tick's loop: k items have gone, n are in the heap -/
theorem sk_tick28 {post : Int32 → St1 → Prop} {T : Nat} (H : ∀ r u U', sk_J u U' T → ¬ r < 0 → post r u) : ∀ (n k : Nat) (U : Nat → List Nat) (nu : Int32) (a1 : Nat → Int32) (a2 : Nat → Int32) (a3 : Nat → Int32) (a4 : Nat → Int32) (a5 : Nat → Int32) (a6 : Nat → Int32) (a7 : Nat → Int32) (a8 : Nat → Int64) (a9 : Nat → Int32) (a10 : Nat → Int32) (a11 : Nat → Int32) (a12 : Nat → Int32) (a13 : Nat → Int32) (a14 : Nat → Int32) (a15 : Nat → Int32) (a16 : Nat → Int32) (a17 : Nat → Int32), n + k ≤ 32 → sk_iv (lN T, nu, nI n, a1, a2, a3, a4, a5, a6, a7, a8, a9, a10, a11, a12, a13, a14, a15, a16, a17) U n 32 →
    wX_tick_28 post (n + 1) (nI k) (nI k) (lN T) nu (nI n) a1 a2 a3 a4 a5 a6 a7 a8 a9 a10 a11 a12 a13 a14 a15 a16 a17 := by
  intro n
  induction n with
  | zero =>
    intro k U nu a1 a2 a3 a4 a5 a6 a7 a8 a9 a10 a11 a12 a13 a14 a15 a16 a17 hk h
    have h0 := h
    obtain ⟨_, hU, hC, hF, hI, ⟨hn, g, hh, hO⟩, hX⟩ := h
    have hp : post (nI k) (lN T, nu, nI 0, a1, a2, a3, a4, a5, a6, a7, a8, a9, a10, a11, a12, a13, a14, a15, a16, a17) := H _ _ U (sk_J_mk h0 (fun c hc z => (hh.2 c hc).elim (fun y => absurd y z) (fun ⟨i, hi, _⟩ => absurd hi (by omega)))) (nI_pos (by omega))
    exact br_c (fun _ => hp) (fun _ => br_t (nI_le (a := 0) (b := 0) (by omega) (by omega)) hp)
  | succ n ih =>
    intro k U nu a1 a2 a3 a4 a5 a6 a7 a8 a9 a10 a11 a12 a13 a14 a15 a16 a17 hk h
    have h0 := h
    obtain ⟨_, hU, hC, hF, hI, ⟨hn, g, hh, hO⟩, hX⟩ := h
    obtain ⟨g1, g2, g3⟩ := hh.1 0 (by omega)
    have h7 : a17 (g 0) ≠ -1 := sk_hs_in hn hh (by omega)
    have h4 := hX (g 0) g1 h7
    obtain ⟨s, hs3, e1⟩ := (hI.1 (g 0) g1 h4).2
    refine pk_le 32 k (fun z => absurd z (by omega)) (fun _ => pk_le (n + 1) 0 (fun z => absurd z (by omega)) (fun _ => ?_))
    rw [g2, nI_clamp (show g 0 < 2 ^ 31 by omega)]
    refine ⟨vp_in_nI g1 (by omega), br_c (fun z => H _ _ U (sk_J_mk h0 (fun c hc z' => ?_)) (nI_pos (by omega))) (fun z => ?_)⟩
    · rcases hh.2 c hc with y | ⟨i, hi, ei⟩
      · exact absurd y z'
      · have g4 := sk_O_top hO i hi
        refine Int64.lt_of_lt_of_le z (Int64.le_iff_toInt_le.mpr ?_)
        rw [← ei]
        exact g4
    · refine sk_giveUp h0 hs3 ((hU.2.2 s (g 0) hs3).mpr ⟨g1, h4, e1⟩) (by omega) (fun n' b2 b3 b9 b10 b11 b12 b13 b14 b15 b16 b17 q1 q2 q3 q4 => ?_)
      have en : n' = n := by have := q4 h7; omega
      subst en
      refine nm_r (nI_1 k) (nm_r (nI_1 k) ?_)
      exact ih (k + 1) _ nu a1 b2 b3 _ a5 a6 a7 a8 b9 b10 b11 b12 b13 b14 b15 b16 b17 (by omega) q1
theorem sk_tick {post : Int32 → St1 → Prop} {u : St1} {U : Nat → List Nat} {T t : Nat} (h : sk_J u U T) (ht : t ≤ 1000) (H : ∀ r u U', sk_J u U' (T + t) → ¬ r < 0 → post r u) : wpX_tick post u (nI t) := by
  obtain ⟨cl, nu, hs, a1, a2, a3, a4, a5, a6, a7, a8, a9, a10, a11, a12, a13, a14, a15, a16, a17⟩ := u
  obtain ⟨⟨n, hi⟩, hcl, hf⟩ := h
  have hn : hs = nI n := hi.1
  subst hn
  subst hcl
  have hn32 : n ≤ 32 := hi.2.2.2.2.2.1.1
  unfold wpX_tick
  dsimp only
  refine br_f (nI_pos (by omega)) (br_t (nI_le (b := 1000) (by omega) (by omega)) (nm_r (e' := lN (T + t)) (by rw [nI_l (by omega), lN_add]) ⟨n + 1, ?_⟩))
  exact sk_tick28 H n 0 U nu a1 a2 a3 a4 a5 a6 a7 a8 a9 a10 a11 a12 a13 a14 a15 a16 a17 (by omega) hi
/-- nothing is over: tick(0) leaves all as it is -/
theorem sk_tick0 {post : Int32 → St1 → Prop} {cl : Int64} {nu hs : Int32} {a1 a2 a3 a4 a5 a6 a7 : Nat → Int32} {a8 : Nat → Int64} {a9 a10 a11 a12 a13 a14 a15 a16 a17 : Nat → Int32} {U : Nat → List Nat} {T : Nat} (h : sk_J (cl, nu, hs, a1, a2, a3, a4, a5, a6, a7, a8, a9, a10, a11, a12, a13, a14, a15, a16, a17) U T) (H : post 0 (cl, nu, hs, a1, a2, a3, a4, a5, a6, a7, a8, a9, a10, a11, a12, a13, a14, a15, a16, a17)) : wpX_tick post (cl, nu, hs, a1, a2, a3, a4, a5, a6, a7, a8, a9, a10, a11, a12, a13, a14, a15, a16, a17) 0 := by
  obtain ⟨⟨n, e, hU, hC, hF, hI, ⟨hn, g, hh, hO⟩, hX⟩, hcl, hf⟩ := h
  subst e
  subst hcl
  unfold wpX_tick
  dsimp only
  refine br_f (by decide) (br_t (by decide) (nm_r (e' := lN T) ?_ ⟨1, ?_⟩))
  · rw [show (0 : Int32).toInt64 = 0 by decide, Int64.add_zero]
  · refine br_f (by decide) (pk_le n 0 (fun _ => H) (fun z => ?_))
    obtain ⟨g1, g2, g3⟩ := hh.1 0 z
    have h7 : a17 (g 0) ≠ -1 := sk_hs_in hn hh z
    rw [g2, nI_clamp (show g 0 < 2 ^ 31 by omega)]
    exact ⟨vp_in_nI g1 (by omega), br_t (hf (g 0) g1 h7) H⟩
end
section
/-! what the law asks between two calls -/
theorem sk_hasF {post : Int32 → Prop} {cl : Int64} {nu hs : Int32} {a1 a2 a3 a4 a5 a6 a7 : Nat → Int32} {a8 : Nat → Int64} {a9 a10 a11 a12 a13 a14 a15 a16 a17 : Nat → Int32} {U : Nat → List Nat} {T c : Nat} (h : sk_J (cl, nu, hs, a1, a2, a3, a4, a5, a6, a7, a8, a9, a10, a11, a12, a13, a14, a15, a16, a17) U T) (hc : c < 32) (h4 : a4 c = 1) (H : post 1) : wpX_has post (cl, nu, hs, a1, a2, a3, a4, a5, a6, a7, a8, a9, a10, a11, a12, a13, a14, a15, a16, a17) (a5 c) := by
  unfold wpX_has
  exact sk_findF h hc h4 (br_f (nI_pos (by omega)) H)
theorem sk_hasN {post : Int32 → Prop} {cl : Int64} {nu hs : Int32} {a1 a2 a3 a4 a5 a6 a7 : Nat → Int32} {a8 : Nat → Int64} {a9 a10 a11 a12 a13 a14 a15 a16 a17 : Nat → Int32} {U : Nat → List Nat} {T : Nat} {key : Int32} (h : sk_J (cl, nu, hs, a1, a2, a3, a4, a5, a6, a7, a8, a9, a10, a11, a12, a13, a14, a15, a16, a17) U T) (hno : ∀ c, c < 32 → a4 c = 1 → a5 c ≠ key) (H : post 0) : wpX_has post (cl, nu, hs, a1, a2, a3, a4, a5, a6, a7, a8, a9, a10, a11, a12, a13, a14, a15, a16, a17) key := by
  unfold wpX_has
  exact sk_findN h hno (br_t (by decide) H)
theorem sk_numF {post : Int32 → Prop} {cl : Int64} {nu hs : Int32} {a1 a2 a3 a4 a5 a6 a7 : Nat → Int32} {a8 : Nat → Int64} {a9 a10 a11 a12 a13 a14 a15 a16 a17 : Nat → Int32} {U : Nat → List Nat} {T c : Nat} (h : sk_J (cl, nu, hs, a1, a2, a3, a4, a5, a6, a7, a8, a9, a10, a11, a12, a13, a14, a15, a16, a17) U T) (hc : c < 32) (h4 : a4 c = 1) (H : post (a7 c)) : wpX_number post (cl, nu, hs, a1, a2, a3, a4, a5, a6, a7, a8, a9, a10, a11, a12, a13, a14, a15, a16, a17) (a5 c) := by
  unfold wpX_number
  refine sk_findF h hc h4 (br_t (nI_pos' (by omega)) ⟨vp_in_nI hc (by omega), ?_⟩)
  rw [nI_clamp (show c < 2 ^ 31 by omega)]
  exact H
theorem sk_numN {post : Int32 → Prop} {cl : Int64} {nu hs : Int32} {a1 a2 a3 a4 a5 a6 a7 : Nat → Int32} {a8 : Nat → Int64} {a9 a10 a11 a12 a13 a14 a15 a16 a17 : Nat → Int32} {U : Nat → List Nat} {T : Nat} {key : Int32} (h : sk_J (cl, nu, hs, a1, a2, a3, a4, a5, a6, a7, a8, a9, a10, a11, a12, a13, a14, a15, a16, a17) U T) (hno : ∀ c, c < 32 → a4 c = 1 → a5 c ≠ key) (H : post (-1)) : wpX_number post (cl, nu, hs, a1, a2, a3, a4, a5, a6, a7, a8, a9, a10, a11, a12, a13, a14, a15, a16, a17) key := by
  unfold wpX_number
  exact sk_findN h hno (br_f (by decide) H)
theorem sk_swapF {post : Int32 → St1 → Prop} {cl : Int64} {nu hs : Int32} {a1 a2 a3 a4 a5 a6 a7 : Nat → Int32} {a8 : Nat → Int64} {a9 a10 a11 a12 a13 a14 a15 a16 a17 : Nat → Int32} {U : Nat → List Nat} {T c : Nat} {v : Int32} (h : sk_J (cl, nu, hs, a1, a2, a3, a4, a5, a6, a7, a8, a9, a10, a11, a12, a13, a14, a15, a16, a17) U T) (hc : c < 32) (h4 : a4 c = 1) (H : post 0 (cl, nu, hs, a1, a2, a3, a4, a5, a6, a7, a8, a9, a10, a11, a12, a13, a14, a15, a16, a17)) : wpX_swap post (cl, nu, hs, a1, a2, a3, a4, a5, a6, a7, a8, a9, a10, a11, a12, a13, a14, a15, a16, a17) (a5 c) (a7 c + 1) v := by
  unfold wpX_swap
  refine sk_findF h hc h4 (br_f (nI_pos (by omega)) ⟨vp_in_nI hc (by omega), ?_⟩)
  rw [nI_clamp (show c < 2 ^ 31 by omega)]
  refine br_f (sk_ne1 (a7 c)) ?_
  unfold wX_swap_23
  exact br_t (nI_pos' (by omega)) H
theorem sk_swapN {post : Int32 → St1 → Prop} {cl : Int64} {nu hs : Int32} {a1 a2 a3 a4 a5 a6 a7 : Nat → Int32} {a8 : Nat → Int64} {a9 a10 a11 a12 a13 a14 a15 a16 a17 : Nat → Int32} {U : Nat → List Nat} {T : Nat} {key m v : Int32} (h : sk_J (cl, nu, hs, a1, a2, a3, a4, a5, a6, a7, a8, a9, a10, a11, a12, a13, a14, a15, a16, a17) U T) (hno : ∀ c, c < 32 → a4 c = 1 → a5 c ≠ key) (H : post (-1) (cl, nu, hs, a1, a2, a3, a4, a5, a6, a7, a8, a9, a10, a11, a12, a13, a14, a15, a16, a17)) : wpX_swap post (cl, nu, hs, a1, a2, a3, a4, a5, a6, a7, a8, a9, a10, a11, a12, a13, a14, a15, a16, a17) key m v := by
  unfold wpX_swap
  refine sk_findN h hno (br_t (by decide) ?_)
  unfold wX_swap_23
  exact br_f (by decide) H
theorem sk_storeNo {post : Int32 → St1 → Prop} {cl : Int64} {nu hs : Int32} {a1 a2 a3 a4 a5 a6 a7 : Nat → Int32} {a8 : Nat → Int64} {a9 a10 a11 a12 a13 a14 a15 a16 a17 : Nat → Int32} {key : Int32} (H : post (-1) (cl, nu, hs, a1, a2, a3, a4, a5, a6, a7, a8, a9, a10, a11, a12, a13, a14, a15, a16, a17)) : wpX_store post (cl, nu, hs, a1, a2, a3, a4, a5, a6, a7, a8, a9, a10, a11, a12, a13, a14, a15, a16, a17) key 13 0 0 := by
  unfold wpX_store
  exact br_c (fun _ => H) (fun _ => br_c (fun _ => H) (fun _ => br_f (by decide) (br_t (by decide) H)))
theorem sk_touchNo {post : Int32 → St1 → Prop} {cl : Int64} {nu hs : Int32} {a1 a2 a3 a4 a5 a6 a7 : Nat → Int32} {a8 : Nat → Int64} {a9 a10 a11 a12 a13 a14 a15 a16 a17 : Nat → Int32} {key : Int32} (H : post (-1) (cl, nu, hs, a1, a2, a3, a4, a5, a6, a7, a8, a9, a10, a11, a12, a13, a14, a15, a16, a17)) : wpX_touch post (cl, nu, hs, a1, a2, a3, a4, a5, a6, a7, a8, a9, a10, a11, a12, a13, a14, a15, a16, a17) key (-1) := by
  unfold wpX_touch
  exact br_t (by decide) H
theorem sk_asked41 {post : Int32 → St1 → Prop} {cl : Int64} {nu hs : Int32} {a1 a2 a3 a4 a5 a6 a7 : Nat → Int32} {a8 : Nat → Int64} {a9 a10 a11 a12 a13 a14 a15 a16 a17 : Nat → Int32} {U : Nat → List Nat} {T s : Nat} {x1 x4 x5 z : Int32} (h : sk_J (cl, nu, hs, a1, a2, a3, a4, a5, a6, a7, a8, a9, a10, a11, a12, a13, a14, a15, a16, a17) U T) (hs3 : s < 3) (hH : ∀ P : Int32 → Prop, P x4 → wpX_has P (cl, nu, hs, a1, a2, a3, a4, a5, a6, a7, a8, a9, a10, a11, a12, a13, a14, a15, a16, a17) x1) (hN : ∀ P : Int32 → Prop, P x5 → wpX_number P (cl, nu, hs, a1, a2, a3, a4, a5, a6, a7, a8, a9, a10, a11, a12, a13, a14, a15, a16, a17) x1) (H : post 1 (cl, nu, hs, a1, a2, a3, a4, a5, a6, a7, a8, a9, a10, a11, a12, a13, a14, a15, a16, a17)) :
    wL_asked_41 post x1 (nI s) (sk_first a5 (U s)) x4 x5 z z cl nu hs a1 a2 a3 a4 a5 a6 a7 a8 a9 a10 a11 a12 a13 a14 a15 a16 a17 := by
  unfold wL_asked_41
  refine br_t rfl ?_
  refine sk_storeNo (br_t rfl ?_)
  refine sk_touchNo (br_t rfl ?_)
  refine sk_tick0 h (br_t rfl ?_)
  refine sk_oldest h hs3 (br_t rfl ?_)
  refine hH _ (br_t rfl ?_)
  exact hN _ (br_t rfl H)
theorem sk_asked {post : Int32 → St1 → Prop} {cl : Int64} {nu hs : Int32} {a1 a2 a3 a4 a5 a6 a7 : Nat → Int32} {a8 : Nat → Int64} {a9 a10 a11 a12 a13 a14 a15 a16 a17 : Nat → Int32} {U : Nat → List Nat} {T s : Nat} {key : Int32} (h : sk_J (cl, nu, hs, a1, a2, a3, a4, a5, a6, a7, a8, a9, a10, a11, a12, a13, a14, a15, a16, a17) U T) (hs3 : s < 3) (H : post 1 (cl, nu, hs, a1, a2, a3, a4, a5, a6, a7, a8, a9, a10, a11, a12, a13, a14, a15, a16, a17)) : wpL_asked post (cl, nu, hs, a1, a2, a3, a4, a5, a6, a7, a8, a9, a10, a11, a12, a13, a14, a15, a16, a17) key (nI s) := by
  unfold wpL_asked
  refine sk_oldest h hs3 ?_
  by_cases hx : ∃ c, c < 32 ∧ a4 c = 1 ∧ a5 c = key
  · obtain ⟨c, hc, h4, rfl⟩ := hx
    refine sk_hasF h hc h4 ?_
    refine sk_numF h hc h4 ?_
    refine sk_swapF h hc h4 ?_
    exact br_t rfl (sk_asked41 h hs3 (fun P hP => sk_hasF h hc h4 hP) (fun P hP => sk_numF h hc h4 hP) H)
  · have hno : ∀ c, c < 32 → a4 c = 1 → a5 c ≠ key := fun c hc h4 e => hx ⟨c, hc, h4, e⟩
    refine sk_hasN h hno ?_
    refine sk_numN h hno ?_
    refine sk_swapN h hno ?_
    exact br_f (by decide) (sk_asked41 h hs3 (fun P hP => sk_hasN h hno hP) (fun P hP => sk_numN h hno hP) H)
/-! the ring: once around by touch, once around by get and add -/
theorem sk_same {cl : Int64} {nu hs : Int32} {a1 a2 a3 a4 a5 a6 a7 : Nat → Int32} {a8 : Nat → Int64} {a9 a10 a11 a12 a13 a14 a15 a16 a17 : Nat → Int32} {U : Nat → List Nat} {T c d s r : Nat} (h : sk_J (cl, nu, hs, a1, a2, a3, a4, a5, a6, a7, a8, a9, a10, a11, a12, a13, a14, a15, a16, a17) U T) (hs3 : s < 3) (hr3 : r < 3) (hc : c ∈ U s) (hd : d ∈ U r) (e : a5 c = a5 d) : c = d ∧ s = r := by
  obtain ⟨⟨n, _, ⟨hR, hL, hM⟩, hC, hF, hI, hH, hX⟩, hcl, hf⟩ := h
  have g1 := (hM s c hs3).mp hc
  have g2 := (hM r d hr3).mp hd
  have e1 : c = d := hI.2.1 c d g1.1 g2.1 g1.2.1 g2.2.1 e
  subst e1
  exact ⟨rfl, hR.2 s r c hs3 hr3 hc hd⟩
theorem sk_nodup {cl : Int64} {nu hs : Int32} {a1 a2 a3 a4 a5 a6 a7 : Nat → Int32} {a8 : Nat → Int64} {a9 a10 a11 a12 a13 a14 a15 a16 a17 : Nat → Int32} {U : Nat → List Nat} {T s : Nat} (h : sk_J (cl, nu, hs, a1, a2, a3, a4, a5, a6, a7, a8, a9, a10, a11, a12, a13, a14, a15, a16, a17) U T) (hs3 : s < 3) : (U s).Nodup ∧ (U s).length ≤ 32 := by
  obtain ⟨⟨n, _, ⟨hR, hL, hM⟩, hC, hF, hI, hH, hX⟩, hcl, hf⟩ := h
  exact ⟨(hR.1 s hs3).2, sk_pig 32 _ (hR.1 s hs3).2 (sk_ds_lt (hR.1 s hs3).1)⟩
def sk_sum (a5 : Nat → Int32) (l : List Nat) : Int32 := l.foldl (fun x c => x * 257 + a5 c) 0
theorem sk_sum1 (a5 : Nat → Int32) (l : List Nat) (c : Nat) : sk_sum a5 (l ++ [c]) = sk_sum a5 l * 257 + a5 c := by
  unfold sk_sum
  rw [List.foldl_append]
  rfl
theorem sk_ring104 {post : Int32 → St1 → Prop} {cl : Int64} {hs : Int32} {a1 : Nat → Int32} {a2 : Nat → Int32} {a3 : Nat → Int32} {a4 : Nat → Int32} {a5 : Nat → Int32} {a8 : Nat → Int64} {a9 : Nat → Int32} {a10 : Nat → Int32} {a15 : Nat → Int32} {a16 : Nat → Int32} {a17 : Nat → Int32} {s T : Nat} {l : List Nat} (hs3 : s < 3) (hl : l.length ≤ 32) (H : ∀ u U', sk_J u U' (T + 500) → post 1 u) :
    ∀ (l2 l1 : List Nat) (U : Nat → List Nat) (nu : Int32) (a6 : Nat → Int32) (a7 : Nat → Int32) (a11 : Nat → Int32) (a12 : Nat → Int32) (a13 : Nat → Int32) (a14 : Nat → Int32), l = l1 ++ l2 → sk_J (cl, nu, hs, a1, a2, a3, a4, a5, a6, a7, a8, a9, a10, a11, a12, a13, a14, a15, a16, a17) U T → U s = l2 ++ l1 → wL_ring_104 post (nI s) (nI l.length) (sk_sum a5 l) (l2.length + 1) (sk_sum a5 l1) (nI l1.length) cl nu hs a1 a2 a3 a4 a5 a6 a7 a8 a9 a10 a11 a12 a13 a14 a15 a16 a17 := by
  intro l2
  induction l2 with
  | nil =>
    intro l1 U nu a6 a7 a11 a12 a13 a14 e h hU
    rw [List.append_nil] at e
    subst e
    refine pk_le l.length l.length (fun _ => br_t rfl ?_) (fun z => absurd z (by omega))
    refine sk_items h hs3 (br_t (by rw [hU]; rfl) ?_)
    refine sk_tick (t := 500) h (by omega) (fun r u U' hJ hr => ?_)
    obtain ⟨cl, nu, hs, a1, a2, a3, a4, a5, a6, a7, a8, a9, a10, a11, a12, a13, a14, a15, a16, a17⟩ := u
    exact br_f hr (H _ _ hJ)
  | cons c l2 ih =>
    intro l1 U nu a6 a7 a11 a12 a13 a14 e h hU
    have hlen : l.length = l1.length + (l2.length + 1) := by rw [e, List.length_append, List.length_cons]
    have ef : sk_first a5 (U s) = a5 c := by rw [hU]; rfl
    have hc : c ∈ U s := by rw [hU]; exact List.mem_cons_self
    obtain ⟨hc32, h4, h1, hk⟩ := sk_item h hs3 hc
    have hn := (sk_nodup h hs3).1
    rw [hU] at hn
    have hn1 : c ∉ l2 ++ l1 := (List.nodup_cons.mp hn).1
    refine pk_le l.length l1.length (fun z => absurd z (by omega)) (fun _ => ?_)
    refine sk_oldest h hs3 ?_
    rw [ef]
    refine nm_r (sk_sum1 a5 l1 c).symm ?_
    refine sk_get h (fun hno => absurd rfl (hno c hc32 h4)) (fun c' s' b11 b12 b13 b14 g1 g2 g3 g4 g5 => ?_)
    obtain ⟨e1, e2⟩ := sk_same h g2 hs3 g3 hc g4
    subst e1 e2
    refine sk_add g5 (fun hno => absurd rfl (hno c' hc32 h4)) (fun c2 s2 d11 d12 d13 d14 k1 k2 k3 k4 k5 => ?_)
    have hc1 : c' ∈ va_up U s' ((U s').erase c' ++ [c']) s' := by rw [sk_us]; exact List.mem_append.mpr (Or.inr (List.mem_singleton.mpr rfl))
    obtain ⟨e3, e4⟩ := sk_same g5 k2 hs3 k3 hc1 k4
    subst e3 e4
    refine br_t (Int32.add_zero _) (nm_r (e' := nI (l1 ++ [c2]).length) (by rw [List.length_append]; exact nI_1 _) ?_)
    refine ih (l1 ++ [c2]) _ _ _ _ d11 d12 d13 d14 (by rw [e, List.append_assoc]; rfl) k5 ?_
    have ee : (c2 :: l2 ++ l1).erase c2 = l2 ++ l1 := List.erase_cons_head c2 (l2 ++ l1)
    have ee2 : (l2 ++ l1 ++ [c2]).erase c2 = l2 ++ l1 := by
      rw [List.erase_append_right [c2] hn1, List.erase_cons_head, List.append_nil]
    rw [sk_us, sk_us, hU, ee, ee2, List.append_assoc]
theorem sk_ring18 {post : Int32 → St1 → Prop} {cl : Int64} {nu : Int32} {a1 : Nat → Int32} {a2 : Nat → Int32} {a3 : Nat → Int32} {a4 : Nat → Int32} {a5 : Nat → Int32} {a6 : Nat → Int32} {a7 : Nat → Int32} {a9 : Nat → Int32} {a10 : Nat → Int32} {a15 : Nat → Int32} {s T : Nat} {l : List Nat} (hs3 : s < 3) (hl : l.length ≤ 32) (hT : T < 2 ^ 31) (H : ∀ u U', sk_J u U' (T + 500) → post 1 u) :
    ∀ (l2 l1 : List Nat) (U : Nat → List Nat) (hs : Int32) (a8 : Nat → Int64) (a11 : Nat → Int32) (a12 : Nat → Int32) (a13 : Nat → Int32) (a14 : Nat → Int32) (a16 : Nat → Int32) (a17 : Nat → Int32), l = l1 ++ l2 → sk_J (cl, nu, hs, a1, a2, a3, a4, a5, a6, a7, a8, a9, a10, a11, a12, a13, a14, a15, a16, a17) U T → U s = l2 ++ l1 → wL_ring_18 post (nI s) (nI l.length) (sk_first a5 l) (l2.length + 1) (sk_sum a5 l1) (nI l1.length) cl nu hs a1 a2 a3 a4 a5 a6 a7 a8 a9 a10 a11 a12 a13 a14 a15 a16 a17 := by
  intro l2
  induction l2 with
  | nil =>
    intro l1 U hs a8 a11 a12 a13 a14 a16 a17 e h hU
    rw [List.append_nil] at e
    subst e
    refine pk_le l.length l.length (fun _ => ?_) (fun z => absurd z (by omega))
    refine sk_oldest h hs3 (br_t (by rw [hU]; rfl) ⟨l.length + 1, ?_⟩)
    exact sk_ring104 hs3 hl H l [] U nu a6 a7 a11 a12 a13 a14 rfl h (by rw [hU, List.append_nil]; rfl)
  | cons c l2 ih =>
    intro l1 U hs a8 a11 a12 a13 a14 a16 a17 e h hU
    have hlen : l.length = l1.length + (l2.length + 1) := by rw [e, List.length_append, List.length_cons]
    have ef : sk_first a5 (U s) = a5 c := by rw [hU]; rfl
    have hc : c ∈ U s := by rw [hU]; exact List.mem_cons_self
    obtain ⟨hc32, h4, h1, hk⟩ := sk_item h hs3 hc
    have hn := (sk_nodup h hs3).1
    rw [hU] at hn
    have hn1 : c ∉ l2 ++ l1 := (List.nodup_cons.mp hn).1
    have k57 : wL_ring_57 post (wL_ring_18 post (nI s) (nI l.length) (sk_first a5 l) (l2.length + 1)) (nI s) (nI l.length) (sk_first a5 l) (sk_sum a5 l1) (nI l1.length) (a5 c) cl nu hs a1 a2 a3 a4 a5 a6 a7 a8 a9 a10 a11 a12 a13 a14 a15 a16 a17 := by
      unfold wL_ring_57
      refine sk_touch (t := 0) h hT (by omega) (fun hno => absurd rfl (hno c hc32 h4)) (fun c' s' dh d8 b11 b12 b13 b14 b16 b17 g1 g2 g3 g4 g5 => ?_)
      obtain ⟨e1, e2⟩ := sk_same h g2 hs3 g3 hc g4
      subst e1 e2
      refine br_t rfl (nm_r (sk_sum1 a5 l1 c').symm (nm_r (e' := nI (l1 ++ [c']).length) (by rw [List.length_append]; exact nI_1 _) ?_))
      refine ih (l1 ++ [c']) _ dh d8 b11 b12 b13 b14 b16 b17 (by rw [e, List.append_assoc]; rfl) g5 ?_
      have ee : (c' :: l2 ++ l1).erase c' = l2 ++ l1 := List.erase_cons_head c' (l2 ++ l1)
      rw [sk_us, hU, ee, List.append_assoc]
    refine pk_le l.length l1.length (fun z => absurd z (by omega)) (fun _ => ?_)
    refine sk_oldest h hs3 ?_
    rw [ef]
    refine br_f hk (sk_hasF h hc32 h4 (br_t rfl (pk_le l1.length 0 (fun _ => k57) (fun z => br_f ?_ k57))))
    cases l1 with
    | nil => exact absurd z (by decide)
    | cons d l1' =>
      rw [e]
      intro z2
      have hd : d ∈ U s := by rw [hU]; exact List.mem_append.mpr (Or.inr List.mem_cons_self)
      have e1 := (sk_same h hs3 hs3 hc hd z2).1
      exact hn1 (by rw [e1]; exact List.mem_append.mpr (Or.inr List.mem_cons_self))
theorem sk_ring {post : Int32 → St1 → Prop} {cl : Int64} {nu hs : Int32} {a1 a2 a3 a4 a5 a6 a7 : Nat → Int32} {a8 : Nat → Int64} {a9 a10 a11 a12 a13 a14 a15 a16 a17 : Nat → Int32} {U : Nat → List Nat} {T s : Nat} (h : sk_J (cl, nu, hs, a1, a2, a3, a4, a5, a6, a7, a8, a9, a10, a11, a12, a13, a14, a15, a16, a17) U T) (hs3 : s < 3) (hT : T < 2 ^ 31) (H : ∀ u U', sk_J u U' (T + 500) → post 1 u) : wpL_ring post (cl, nu, hs, a1, a2, a3, a4, a5, a6, a7, a8, a9, a10, a11, a12, a13, a14, a15, a16, a17) (nI s) := by
  unfold wpL_ring
  refine sk_items h hs3 (sk_oldest h hs3 ⟨(U s).length + 1, ?_⟩)
  exact sk_ring18 hs3 (sk_nodup h hs3).2 hT H (U s) [] U hs a8 a11 a12 a13 a14 a16 a17 rfl h (List.append_nil _).symm
end
section
/-! the constructor: four loops that fill with -1 -/
theorem sk_fill {q : Nat → Int32} {i : Nat} (h : ∀ j, j < i → q j = -1) : ∀ j, j < i + 1 → upd q i (-1) j = -1 := by
  intro j hj
  by_cases e : j = i
  · rw [e, pk_us]
  · rw [pk_un e]
    exact h j (by omega)
theorem sk_init214 {post : St1 → Prop} {mc ms kc ks : Nat} {cl : Int64} {nu hs : Int32} {a1 a2 a3 a4 a5 a6 a7 : Nat → Int32} {a8 : Nat → Int64} {a9 a10 a11 a12 a13 a14 a15 a16 a17 : Nat → Int32} (H : ∀ (a17' : Nat → Int32), (∀ j, j < 32 → a17' j = -1) → post (cl, nu, hs, a1, a2, a3, a4, a5, a6, a7, a8, a9, a10, a11, a12, a13, a14, a15, a16, a17')) : ∃ n, wX_init_214 post mc ms kc ks cl nu hs n 0 a1 a2 a3 a4 a5 a6 a7 a8 a9 a10 a11 a12 a13 a14 a15 a16 a17 :=
  pk_loop (fun n i q => wX_init_214 post mc ms kc ks cl nu hs n (nI i) a1 a2 a3 a4 a5 a6 a7 a8 a9 a10 a11 a12 a13 a14 a15 a16 q) (fun i q => ∀ j, j < i → q j = -1) 32 0 a17 (by omega) (fun j hj => absurd hj (by omega))
    (fun n q h => pk_le 32 32 (fun _ => H q h) (fun z => absurd z (by omega)))
    (fun n i q hi h hw => pk_le 32 i (fun z => absurd z (by omega)) (fun _ => ⟨vp_in_nI hi (by omega), nm_r (e' := upd q i (-1)) (by rw [nI_clamp (by omega)]) (nm_r (nI_1 i) (hw _ (sk_fill h)))⟩))
theorem sk_init193 {post : St1 → Prop} {mc ms kc ks : Nat} {cl : Int64} {nu hs : Int32} {a1 a2 a3 a4 a5 a6 a7 : Nat → Int32} {a8 : Nat → Int64} {a9 a10 a11 a12 a13 a14 a15 a16 a17 : Nat → Int32} (H : ∀ (a9' : Nat → Int32) (a17' : Nat → Int32), (∀ j, j < 16 → a9' j = -1) → (∀ j, j < 32 → a17' j = -1) → post (cl, nu, hs, a1, a2, a3, a4, a5, a6, a7, a8, a9', a10, a11, a12, a13, a14, a15, a16, a17')) : ∃ n, wX_init_193 post mc ms kc ks cl nu hs n 0 a1 a2 a3 a4 a5 a6 a7 a8 a9 a10 a11 a12 a13 a14 a15 a16 a17 :=
  pk_loop (fun n i q => wX_init_193 post mc ms kc ks cl nu hs n (nI i) a1 a2 a3 a4 a5 a6 a7 a8 q a10 a11 a12 a13 a14 a15 a16 a17) (fun i q => ∀ j, j < i → q j = -1) 16 0 a9 (by omega) (fun j hj => absurd hj (by omega))
    (fun n q h => pk_le 16 16 (fun _ => sk_init214 (fun b17 h17 => H q b17 h h17)) (fun z => absurd z (by omega)))
    (fun n i q hi h hw => pk_le 16 i (fun z => absurd z (by omega)) (fun _ => ⟨vp_in_nI hi (by omega), nm_r (e' := upd q i (-1)) (by rw [nI_clamp (by omega)]) (nm_r (nI_1 i) (hw _ (sk_fill h)))⟩))
theorem sk_init159 {post : St1 → Prop} {mc ms kc ks : Nat} {cl : Int64} {nu hs : Int32} {a1 a2 a3 a4 a5 a6 a7 : Nat → Int32} {a8 : Nat → Int64} {a9 a10 a11 a12 a13 a14 a15 a16 a17 : Nat → Int32} (H : ∀ (a2' : Nat → Int32) (a9' : Nat → Int32) (a11' : Nat → Int32) (a12' : Nat → Int32) (a17' : Nat → Int32), (∀ j, j < 3 → a2' j = -1) → (∀ j, j < 16 → a9' j = -1) → (∀ j, j < 3 → a11' j = -1) → (∀ j, j < 3 → a12' j = -1) → (∀ j, j < 32 → a17' j = -1) → post (cl, nu, hs, a1, a2', a3, a4, a5, a6, a7, a8, a9', a10, a11', a12', a13, a14, a15, a16, a17')) :
    ∃ n, wX_init_159 post mc ms kc ks cl nu hs n 0 a1 a2 a3 a4 a5 a6 a7 a8 a9 a10 a11 a12 a13 a14 a15 a16 a17 :=
  pk_loop (σ := (Nat → Int32) × (Nat → Int32) × (Nat → Int32)) (fun n i q => wX_init_159 post mc ms kc ks cl nu hs n (nI i) a1 q.1 a3 a4 a5 a6 a7 a8 a9 a10 q.2.1 q.2.2 a13 a14 a15 a16 a17) (fun i q => (∀ j, j < i → q.1 j = -1) ∧ (∀ j, j < i → q.2.1 j = -1) ∧ ∀ j, j < i → q.2.2 j = -1) 3 0 (a2, a11, a12) (by omega) ⟨fun j hj => absurd hj (by omega), fun j hj => absurd hj (by omega), fun j hj => absurd hj (by omega)⟩
    (fun n q h => pk_le 3 3 (fun _ => sk_init193 (fun b9 b17 h9 h17 => H q.1 b9 q.2.1 q.2.2 b17 h.1 h9 h.2.1 h.2.2 h17)) (fun z => absurd z (by omega)))
    (fun n i q hi h hw => pk_le 3 i (fun z => absurd z (by omega)) (fun _ => ⟨vp_in_nI hi (by omega), nm_r (e' := upd q.1 i (-1)) (by rw [nI_clamp (by omega)]) ⟨vp_in_nI hi (by omega), nm_r (e' := upd q.2.1 i (-1)) (by rw [nI_clamp (by omega)])
      ⟨vp_in_nI hi (by omega), nm_r (e' := upd q.2.2 i (-1)) (by rw [nI_clamp (by omega)]) (nm_r (nI_1 i) (hw (upd q.1 i (-1), upd q.2.1 i (-1), upd q.2.2 i (-1)) ⟨sk_fill h.1, sk_fill h.2.1, sk_fill h.2.2⟩))⟩⟩⟩))
theorem sk_init138 {post : St1 → Prop} {mc ms kc ks : Nat} {cl : Int64} {nu hs : Int32} {a1 a2 a3 a4 a5 a6 a7 : Nat → Int32} {a8 : Nat → Int64} {a9 a10 a11 a12 a13 a14 a15 a16 a17 : Nat → Int32} (H : ∀ (a1' : Nat → Int32) (a2' : Nat → Int32) (a9' : Nat → Int32) (a11' : Nat → Int32) (a12' : Nat → Int32) (a17' : Nat → Int32), (∀ j, j < 8 → a1' j = -1) → (∀ j, j < 3 → a2' j = -1) → (∀ j, j < 16 → a9' j = -1) → (∀ j, j < 3 → a11' j = -1) → (∀ j, j < 3 → a12' j = -1) → (∀ j, j < 32 → a17' j = -1) → post (cl, nu, hs, a1', a2', a3, a4, a5, a6, a7, a8, a9', a10, a11', a12', a13, a14, a15, a16, a17')) :
    ∃ n, wX_init_138 post mc ms kc ks cl nu hs n 0 a1 a2 a3 a4 a5 a6 a7 a8 a9 a10 a11 a12 a13 a14 a15 a16 a17 :=
  pk_loop (fun n i q => wX_init_138 post mc ms kc ks cl nu hs n (nI i) q a2 a3 a4 a5 a6 a7 a8 a9 a10 a11 a12 a13 a14 a15 a16 a17) (fun i q => ∀ j, j < i → q j = -1) 8 0 a1 (by omega) (fun j hj => absurd hj (by omega))
    (fun n q h => pk_le 8 8 (fun _ => sk_init159 (fun b2 b9 b11 b12 b17 h2 h9 h11 h12 h17 => H q b2 b9 b11 b12 b17 h h2 h9 h11 h12 h17)) (fun z => absurd z (by omega)))
    (fun n i q hi h hw => pk_le 8 i (fun z => absurd z (by omega)) (fun _ => ⟨vp_in_nI hi (by omega), nm_r (e' := upd q i (-1)) (by rw [nI_clamp (by omega)]) (nm_r (nI_1 i) (hw _ (sk_fill h)))⟩))
/-- a new cache is empty -/
theorem sk_new {a1 a2 a3 a5 a6 a7 a9 a10 a11 a12 a13 a14 a16 a17 : Nat → Int32} {a8 : Nat → Int64} (h1 : ∀ j, j < 8 → a1 j = -1) (h2 : ∀ j, j < 3 → a2 j = -1) (h9 : ∀ j, j < 16 → a9 j = -1) (h11 : ∀ j, j < 3 → a11 j = -1) (h12 : ∀ j, j < 3 → a12 j = -1) (h17 : ∀ j, j < 32 → a17 j = -1) :
    sk_J (lN 0, 0, nI 0, a1, a2, a3, fun _ => 0, a5, a6, a7, a8, a9, a10, a11, a12, a13, a14, fun _ => 0, a16, a17) (fun _ => []) 0 := by
  have h4 : ¬ ((0 : Int32) = 1) := by decide
  refine sk_J_mk ⟨rfl, ⟨⟨fun s hs => ⟨⟨h12 s hs, h11 s hs⟩, List.nodup_nil⟩, fun s t c _ _ hc => absurd hc List.not_mem_nil⟩, fun s hs => rfl, fun s c hs => ⟨fun z => absurd z List.not_mem_nil, fun z => absurd z.2.1 h4⟩⟩,
    ⟨fun _ => [], fun b hb => ⟨h9 b hb, List.nodup_nil, fun c => ⟨fun z => absurd z List.not_mem_nil, fun z => absurd z.2.1 h4⟩⟩⟩,
    ⟨fun _ => [], fun s hs => ⟨h2 s hs, List.nodup_nil, fun c hc => absurd hc List.not_mem_nil⟩⟩,
    ⟨fun c _ z => absurd z h4, fun c d _ _ z => absurd z h4, fun p hp => Or.inl (h1 p hp)⟩,
    ⟨by omega, fun _ => 0, ⟨fun i hi => absurd hi (by omega), fun c hc => Or.inl (h17 c hc)⟩, fun i _ hi => absurd hi (by omega)⟩, fun c hc z => absurd (h17 c hc) z⟩ (fun c hc z => absurd (h17 c hc) z)
theorem sk_init {post : St1 → Prop} (H : ∀ u, sk_J u (fun _ => []) 0 → post u) : wpX_init post 17 388 (0, 0, 0) := by
  unfold wpX_init
  dsimp only
  refine ⟨by omega, by omega, by omega, by omega, by omega, by omega, by omega, by omega, by omega, by omega, by omega, by omega, by omega, by omega, by omega, by omega, by omega, by omega, by omega, by omega, by omega, by omega, by omega, by omega, by omega, by omega, by omega, by omega, by omega, by omega, by omega, by omega, by omega, by omega, sk_init138 (fun b1 b2 b9 b11 b12 b17 h1 h2 h9 h11 h12 h17 => H _ (sk_new h1 h2 h9 h11 h12 h17))⟩
end
section
/-! the law -/
theorem sk_law170 {L : Nat} {xs : Nat → Int32} {J10 : Int32 → Int64 → Int32 → Int32 → (Nat → Int32) → (Nat → Int32) → (Nat → Int32) → (Nat → Int32) → (Nat → Int32) → (Nat → Int32) → (Nat → Int32) → (Nat → Int64) → (Nat → Int32) → (Nat → Int32) → (Nat → Int32) → (Nat → Int32) → (Nat → Int32) → (Nat → Int32) → (Nat → Int32) → (Nat → Int32) → (Nat → Int32) → Prop} {i q t kc ks B : Nat} {x3 x4 : Int32} {cl : Int64} {nu hs : Int32} {a1 a2 a3 a4 a5 a6 a7 : Nat → Int32} {a8 : Nat → Int64} {a9 a10 a11 a12 a13 a14 a15 a16 a17 : Nat → Int32} {U : Nat → List Nat} {T : Nat} (h : sk_J (cl, nu, hs, a1, a2, a3, a4, a5, a6, a7, a8, a9, a10, a11, a12, a13, a14, a15, a16, a17) U T) (hL : L ≤ 260) (hi : i + 4 ≤ L) (hq : q < 2 ^ 31) (ht : t ≤ 15) (hB : B < 2 ^ 31) (hT : T + 500 ≤ B)
    (hJ : ∀ (cl : Int64) (nu : Int32) (hs : Int32) (a1 : Nat → Int32) (a2 : Nat → Int32) (a3 : Nat → Int32) (a4 : Nat → Int32) (a5 : Nat → Int32) (a6 : Nat → Int32) (a7 : Nat → Int32) (a8 : Nat → Int64) (a9 : Nat → Int32) (a10 : Nat → Int32) (a11 : Nat → Int32) (a12 : Nat → Int32) (a13 : Nat → Int32) (a14 : Nat → Int32) (a15 : Nat → Int32) (a16 : Nat → Int32) (a17 : Nat → Int32) (U : Nat → List Nat) (T' : Nat), sk_J (cl, nu, hs, a1, a2, a3, a4, a5, a6, a7, a8, a9, a10, a11, a12, a13, a14, a15, a16, a17) U T' → T' ≤ B → J10 (nI (i + 4)) cl nu hs a1 a2 a3 a4 a5 a6 a7 a8 a9 a10 a11 a12 a13 a14 a15 a16 a17) : wL_law_170 (fun r => r = 1) L xs J10 (nI i) x3 x4 (nI q) kc ks cl nu hs a1 a2 a3 a4 a5 a6 a7 a8 a9 a10 a11 a12 a13 a14 a15 a16 a17 := by
  have e3 : nI q - nI q / 3 * 3 = nI (q % 3) := pk_rem (d := 3) hq (by omega) (by omega)
  have e2 : (2 : Int32) - nI (q % 3) = nI (2 - q % 3) := pk_sub (a := 2) (by omega)
  unfold wL_law_170
  rw [e3, e2]
  refine ⟨pk_in (i + 1) L (by omega) (nI_1 i) (by omega), by decide, ?_⟩
  refine sk_asked h (by omega) (br_f (by decide) ⟨by decide, ?_⟩)
  refine sk_asked h (by omega) (br_f (by decide) (br_c (fun _ => nm_r (nI_add i 4) (hJ cl nu hs a1 a2 a3 a4 a5 a6 a7 a8 a9 a10 a11 a12 a13 a14 a15 a16 a17 U T h (by omega))) (fun _ => ⟨by decide, ?_⟩)))
  refine sk_ring h (by omega) (by omega) (fun u U' h' => ?_)
  obtain ⟨cl, nu, hs, a1, a2, a3, a4, a5, a6, a7, a8, a9, a10, a11, a12, a13, a14, a15, a16, a17⟩ := u
  exact br_f (by decide) (nm_r (nI_add i 4) (hJ cl nu hs a1 a2 a3 a4 a5 a6 a7 a8 a9 a10 a11 a12 a13 a14 a15 a16 a17 U' (T + 500) h' hT))
theorem sk_law142 {L : Nat} {xs : Nat → Int32} {J10 : Int32 → Int64 → Int32 → Int32 → (Nat → Int32) → (Nat → Int32) → (Nat → Int32) → (Nat → Int32) → (Nat → Int32) → (Nat → Int32) → (Nat → Int32) → (Nat → Int64) → (Nat → Int32) → (Nat → Int32) → (Nat → Int32) → (Nat → Int32) → (Nat → Int32) → (Nat → Int32) → (Nat → Int32) → (Nat → Int32) → (Nat → Int32) → Prop} {i q t kc ks B : Nat} {x3 x4 : Int32} {cl : Int64} {nu hs : Int32} {a1 a2 a3 a4 a5 a6 a7 : Nat → Int32} {a8 : Nat → Int64} {a9 a10 a11 a12 a13 a14 a15 a16 a17 : Nat → Int32} {U : Nat → List Nat} {T : Nat} (h : sk_J (cl, nu, hs, a1, a2, a3, a4, a5, a6, a7, a8, a9, a10, a11, a12, a13, a14, a15, a16, a17) U T) (hL : L ≤ 260) (hi : i + 4 ≤ L) (hq : q < 2 ^ 31) (ht : t ≤ 15) (hB : B < 2 ^ 31) (hT : T + 500 ≤ B)
    (hJ : ∀ (cl : Int64) (nu : Int32) (hs : Int32) (a1 : Nat → Int32) (a2 : Nat → Int32) (a3 : Nat → Int32) (a4 : Nat → Int32) (a5 : Nat → Int32) (a6 : Nat → Int32) (a7 : Nat → Int32) (a8 : Nat → Int64) (a9 : Nat → Int32) (a10 : Nat → Int32) (a11 : Nat → Int32) (a12 : Nat → Int32) (a13 : Nat → Int32) (a14 : Nat → Int32) (a15 : Nat → Int32) (a16 : Nat → Int32) (a17 : Nat → Int32) (U : Nat → List Nat) (T' : Nat), sk_J (cl, nu, hs, a1, a2, a3, a4, a5, a6, a7, a8, a9, a10, a11, a12, a13, a14, a15, a16, a17) U T' → T' ≤ B → J10 (nI (i + 4)) cl nu hs a1 a2 a3 a4 a5 a6 a7 a8 a9 a10 a11 a12 a13 a14 a15 a16 a17) : wL_law_142 (fun r => r = 1) L xs J10 (nI i) x3 x4 (nI q) (nI t) kc ks cl nu hs a1 a2 a3 a4 a5 a6 a7 a8 a9 a10 a11 a12 a13 a14 a15 a16 a17 := by
  unfold wL_law_142
  refine br_c (fun _ => ⟨pk_in (i + 1) L (by omega) (nI_1 i) (by omega), pk_in (i + 2) L (by omega) (nI_add i 2) (by omega), pk_in (i + 3) L (by omega) (nI_add i 3) (by omega), ?_⟩) (fun _ => sk_law170 h hL hi hq ht hB hT hJ)
  refine sk_store _ _ _ _ h (by omega) (fun r u U' h' => ?_)
  obtain ⟨cl, nu, hs, a1, a2, a3, a4, a5, a6, a7, a8, a9, a10, a11, a12, a13, a14, a15, a16, a17⟩ := u
  exact sk_law170 h' hL hi hq ht hB hT hJ
theorem sk_law129 {L : Nat} {xs : Nat → Int32} {J10 : Int32 → Int64 → Int32 → Int32 → (Nat → Int32) → (Nat → Int32) → (Nat → Int32) → (Nat → Int32) → (Nat → Int32) → (Nat → Int32) → (Nat → Int32) → (Nat → Int64) → (Nat → Int32) → (Nat → Int32) → (Nat → Int32) → (Nat → Int32) → (Nat → Int32) → (Nat → Int32) → (Nat → Int32) → (Nat → Int32) → (Nat → Int32) → Prop} {i q t kc ks B : Nat} {x3 x4 : Int32} {cl : Int64} {nu hs : Int32} {a1 a2 a3 a4 a5 a6 a7 : Nat → Int32} {a8 : Nat → Int64} {a9 a10 a11 a12 a13 a14 a15 a16 a17 : Nat → Int32} {U : Nat → List Nat} {T : Nat} (h : sk_J (cl, nu, hs, a1, a2, a3, a4, a5, a6, a7, a8, a9, a10, a11, a12, a13, a14, a15, a16, a17) U T) (hL : L ≤ 260) (hi : i + 4 ≤ L) (hq : q < 2 ^ 31) (ht : t ≤ 15) (hB : B < 2 ^ 31) (hT : T + 515 ≤ B)
    (hJ : ∀ (cl : Int64) (nu : Int32) (hs : Int32) (a1 : Nat → Int32) (a2 : Nat → Int32) (a3 : Nat → Int32) (a4 : Nat → Int32) (a5 : Nat → Int32) (a6 : Nat → Int32) (a7 : Nat → Int32) (a8 : Nat → Int64) (a9 : Nat → Int32) (a10 : Nat → Int32) (a11 : Nat → Int32) (a12 : Nat → Int32) (a13 : Nat → Int32) (a14 : Nat → Int32) (a15 : Nat → Int32) (a16 : Nat → Int32) (a17 : Nat → Int32) (U : Nat → List Nat) (T' : Nat), sk_J (cl, nu, hs, a1, a2, a3, a4, a5, a6, a7, a8, a9, a10, a11, a12, a13, a14, a15, a16, a17) U T' → T' ≤ B → J10 (nI (i + 4)) cl nu hs a1 a2 a3 a4 a5 a6 a7 a8 a9 a10 a11 a12 a13 a14 a15 a16 a17) : wL_law_129 (fun r => r = 1) L xs J10 (nI i) x3 x4 (nI q) (nI t) kc ks cl nu hs a1 a2 a3 a4 a5 a6 a7 a8 a9 a10 a11 a12 a13 a14 a15 a16 a17 := by
  unfold wL_law_129
  refine br_c (fun _ => ?_) (fun _ => sk_law142 h hL hi hq ht hB (by omega) hJ)
  refine sk_tick h (by omega) (fun r u U' h' _ => ?_)
  obtain ⟨cl, nu, hs, a1, a2, a3, a4, a5, a6, a7, a8, a9, a10, a11, a12, a13, a14, a15, a16, a17⟩ := u
  exact sk_law142 h' hL hi hq ht hB (by omega) hJ
theorem sk_law116 {L : Nat} {xs : Nat → Int32} {J10 : Int32 → Int64 → Int32 → Int32 → (Nat → Int32) → (Nat → Int32) → (Nat → Int32) → (Nat → Int32) → (Nat → Int32) → (Nat → Int32) → (Nat → Int32) → (Nat → Int64) → (Nat → Int32) → (Nat → Int32) → (Nat → Int32) → (Nat → Int32) → (Nat → Int32) → (Nat → Int32) → (Nat → Int32) → (Nat → Int32) → (Nat → Int32) → Prop} {i q t kc ks B : Nat} {x3 x4 : Int32} {cl : Int64} {nu hs : Int32} {a1 a2 a3 a4 a5 a6 a7 : Nat → Int32} {a8 : Nat → Int64} {a9 a10 a11 a12 a13 a14 a15 a16 a17 : Nat → Int32} {U : Nat → List Nat} {T : Nat} (h : sk_J (cl, nu, hs, a1, a2, a3, a4, a5, a6, a7, a8, a9, a10, a11, a12, a13, a14, a15, a16, a17) U T) (hL : L ≤ 260) (hi : i + 4 ≤ L) (hq : q < 2 ^ 31) (ht : t ≤ 15) (hB : B < 2 ^ 31) (hT : T + 515 ≤ B)
    (hJ : ∀ (cl : Int64) (nu : Int32) (hs : Int32) (a1 : Nat → Int32) (a2 : Nat → Int32) (a3 : Nat → Int32) (a4 : Nat → Int32) (a5 : Nat → Int32) (a6 : Nat → Int32) (a7 : Nat → Int32) (a8 : Nat → Int64) (a9 : Nat → Int32) (a10 : Nat → Int32) (a11 : Nat → Int32) (a12 : Nat → Int32) (a13 : Nat → Int32) (a14 : Nat → Int32) (a15 : Nat → Int32) (a16 : Nat → Int32) (a17 : Nat → Int32) (U : Nat → List Nat) (T' : Nat), sk_J (cl, nu, hs, a1, a2, a3, a4, a5, a6, a7, a8, a9, a10, a11, a12, a13, a14, a15, a16, a17) U T' → T' ≤ B → J10 (nI (i + 4)) cl nu hs a1 a2 a3 a4 a5 a6 a7 a8 a9 a10 a11 a12 a13 a14 a15 a16 a17) : wL_law_116 (fun r => r = 1) L xs J10 (nI i) x3 x4 (nI q) (nI t) kc ks cl nu hs a1 a2 a3 a4 a5 a6 a7 a8 a9 a10 a11 a12 a13 a14 a15 a16 a17 := by
  unfold wL_law_116
  refine br_c (fun _ => ?_) (fun _ => sk_law129 h hL hi hq ht hB hT hJ)
  refine sk_remove _ h (fun r u U' h' => ?_)
  obtain ⟨cl, nu, hs, a1, a2, a3, a4, a5, a6, a7, a8, a9, a10, a11, a12, a13, a14, a15, a16, a17⟩ := u
  exact sk_law129 h' hL hi hq ht hB hT hJ
theorem sk_law103 {L : Nat} {xs : Nat → Int32} {J10 : Int32 → Int64 → Int32 → Int32 → (Nat → Int32) → (Nat → Int32) → (Nat → Int32) → (Nat → Int32) → (Nat → Int32) → (Nat → Int32) → (Nat → Int32) → (Nat → Int64) → (Nat → Int32) → (Nat → Int32) → (Nat → Int32) → (Nat → Int32) → (Nat → Int32) → (Nat → Int32) → (Nat → Int32) → (Nat → Int32) → (Nat → Int32) → Prop} {i q t kc ks B : Nat} {x3 x4 : Int32} {cl : Int64} {nu hs : Int32} {a1 a2 a3 a4 a5 a6 a7 : Nat → Int32} {a8 : Nat → Int64} {a9 a10 a11 a12 a13 a14 a15 a16 a17 : Nat → Int32} {U : Nat → List Nat} {T : Nat} (h : sk_J (cl, nu, hs, a1, a2, a3, a4, a5, a6, a7, a8, a9, a10, a11, a12, a13, a14, a15, a16, a17) U T) (hL : L ≤ 260) (hi : i + 4 ≤ L) (hq : q < 2 ^ 31) (ht : t ≤ 15) (hB : B < 2 ^ 31) (hT : T + 515 ≤ B)
    (hJ : ∀ (cl : Int64) (nu : Int32) (hs : Int32) (a1 : Nat → Int32) (a2 : Nat → Int32) (a3 : Nat → Int32) (a4 : Nat → Int32) (a5 : Nat → Int32) (a6 : Nat → Int32) (a7 : Nat → Int32) (a8 : Nat → Int64) (a9 : Nat → Int32) (a10 : Nat → Int32) (a11 : Nat → Int32) (a12 : Nat → Int32) (a13 : Nat → Int32) (a14 : Nat → Int32) (a15 : Nat → Int32) (a16 : Nat → Int32) (a17 : Nat → Int32) (U : Nat → List Nat) (T' : Nat), sk_J (cl, nu, hs, a1, a2, a3, a4, a5, a6, a7, a8, a9, a10, a11, a12, a13, a14, a15, a16, a17) U T' → T' ≤ B → J10 (nI (i + 4)) cl nu hs a1 a2 a3 a4 a5 a6 a7 a8 a9 a10 a11 a12 a13 a14 a15 a16 a17) : wL_law_103 (fun r => r = 1) L xs J10 (nI i) x3 x4 (nI q) (nI t) kc ks cl nu hs a1 a2 a3 a4 a5 a6 a7 a8 a9 a10 a11 a12 a13 a14 a15 a16 a17 := by
  unfold wL_law_103
  refine br_c (fun _ => ?_) (fun _ => sk_law116 h hL hi hq ht hB hT hJ)
  refine sk_get h (fun _ => sk_law116 h hL hi hq ht hB hT hJ) (fun c s b11 b12 b13 b14 _ _ _ _ h' => ?_)
  exact sk_law116 h' hL hi hq ht hB hT hJ
theorem sk_law79 {L : Nat} {xs : Nat → Int32} {J10 : Int32 → Int64 → Int32 → Int32 → (Nat → Int32) → (Nat → Int32) → (Nat → Int32) → (Nat → Int32) → (Nat → Int32) → (Nat → Int32) → (Nat → Int32) → (Nat → Int64) → (Nat → Int32) → (Nat → Int32) → (Nat → Int32) → (Nat → Int32) → (Nat → Int32) → (Nat → Int32) → (Nat → Int32) → (Nat → Int32) → (Nat → Int32) → Prop} {i q t kc ks B : Nat} {x3 x4 : Int32} {cl : Int64} {nu hs : Int32} {a1 a2 a3 a4 a5 a6 a7 : Nat → Int32} {a8 : Nat → Int64} {a9 a10 a11 a12 a13 a14 a15 a16 a17 : Nat → Int32} {U : Nat → List Nat} {T : Nat} (h : sk_J (cl, nu, hs, a1, a2, a3, a4, a5, a6, a7, a8, a9, a10, a11, a12, a13, a14, a15, a16, a17) U T) (hL : L ≤ 260) (hi : i + 4 ≤ L) (hq : q < 2 ^ 31) (ht : t ≤ 15) (hB : B < 2 ^ 31) (hT : T + 515 ≤ B)
    (hJ : ∀ (cl : Int64) (nu : Int32) (hs : Int32) (a1 : Nat → Int32) (a2 : Nat → Int32) (a3 : Nat → Int32) (a4 : Nat → Int32) (a5 : Nat → Int32) (a6 : Nat → Int32) (a7 : Nat → Int32) (a8 : Nat → Int64) (a9 : Nat → Int32) (a10 : Nat → Int32) (a11 : Nat → Int32) (a12 : Nat → Int32) (a13 : Nat → Int32) (a14 : Nat → Int32) (a15 : Nat → Int32) (a16 : Nat → Int32) (a17 : Nat → Int32) (U : Nat → List Nat) (T' : Nat), sk_J (cl, nu, hs, a1, a2, a3, a4, a5, a6, a7, a8, a9, a10, a11, a12, a13, a14, a15, a16, a17) U T' → T' ≤ B → J10 (nI (i + 4)) cl nu hs a1 a2 a3 a4 a5 a6 a7 a8 a9 a10 a11 a12 a13 a14 a15 a16 a17) : wL_law_79 (fun r => r = 1) L xs J10 (nI i) x3 x4 (nI q) (nI t) kc ks cl nu hs a1 a2 a3 a4 a5 a6 a7 a8 a9 a10 a11 a12 a13 a14 a15 a16 a17 := by
  unfold wL_law_79
  refine br_c (fun _ => sk_law103 h hL hi hq ht hB hT hJ) (fun _ => ⟨pk_in (i + 3) L (by omega) (nI_add i 3) (by omega), ?_⟩)
  refine sk_store _ _ _ _ h (by omega) (fun r u U' h' => ?_)
  obtain ⟨cl, nu, hs, a1, a2, a3, a4, a5, a6, a7, a8, a9, a10, a11, a12, a13, a14, a15, a16, a17⟩ := u
  exact sk_law103 h' hL hi hq ht hB hT hJ
theorem sk_law10 {L : Nat} {xs : Nat → Int32} {kc ks : Nat} (hL : L ≤ 260) : ∀ (f i : Nat) (cl : Int64) (nu : Int32) (hs : Int32) (a1 : Nat → Int32) (a2 : Nat → Int32) (a3 : Nat → Int32) (a4 : Nat → Int32) (a5 : Nat → Int32) (a6 : Nat → Int32) (a7 : Nat → Int32) (a8 : Nat → Int64) (a9 : Nat → Int32) (a10 : Nat → Int32) (a11 : Nat → Int32) (a12 : Nat → Int32) (a13 : Nat → Int32) (a14 : Nat → Int32) (a15 : Nat → Int32) (a16 : Nat → Int32) (a17 : Nat → Int32) (U : Nat → List Nat) (T : Nat), sk_J (cl, nu, hs, a1, a2, a3, a4, a5, a6, a7, a8, a9, a10, a11, a12, a13, a14, a15, a16, a17) U T → T ≤ 1000 * i → i ≤ L → L < i + 4 * f → wL_law_10 (fun r => r = 1) L xs kc ks f (nI i) cl nu hs a1 a2 a3 a4 a5 a6 a7 a8 a9 a10 a11 a12 a13 a14 a15 a16 a17 := by
  intro f
  induction f with
  | zero => intro i cl nu hs a1 a2 a3 a4 a5 a6 a7 a8 a9 a10 a11 a12 a13 a14 a15 a16 a17 U T _ _ h1 h2; omega
  | succ f ih =>
    intro i cl nu hs a1 a2 a3 a4 a5 a6 a7 a8 a9 a10 a11 a12 a13 a14 a15 a16 a17 U T h hT hi hf
    refine pk_lt L (i + 4) (fun z => ?_) (fun z => ?_) (hy := nI_add i 4)
    · refine sk_ring (s := 0) h (by omega) (by omega) (fun u U' h' => ?_)
      obtain ⟨cl, nu, hs, a1, a2, a3, a4, a5, a6, a7, a8, a9, a10, a11, a12, a13, a14, a15, a16, a17⟩ := u
      refine br_f (by decide) ?_
      refine sk_ring (s := 1) h' (by omega) (by omega) (fun u U2 h2 => ?_)
      obtain ⟨cl, nu, hs, a1, a2, a3, a4, a5, a6, a7, a8, a9, a10, a11, a12, a13, a14, a15, a16, a17⟩ := u
      refine br_f (by decide) ?_
      refine sk_ring (s := 2) h2 (by omega) (by omega) (fun u U3 h3 => ?_)
      exact br_f (by decide) rfl
    · obtain ⟨j, hj, ej⟩ := pk_andE (xs (nI i + 2).toNatClampNeg) (m := 255) 8 (by decide)
      have hj' : j < 256 := hj
      obtain ⟨t, ht, et⟩ := pk_andE (xs (nI i + 2).toNatClampNeg >>> ((10 : Int32) &&& 31)) (m := 15) 4 (by decide)
      have ht' : t < 16 := ht
      have e5 : 1 + (nI j - nI j / 12 * 12) = nI (1 + j % 12) := by
        have e := pk_rem (a := j) (d := 12) (by omega) (by omega) (by omega)
        exact (congrArg (fun y => 1 + y) e).trans (nI_add 1 (j % 12))
      have p0 : vp_in (nI i) L := vp_in_nI (by omega) (by omega)
      have p1 : vp_in (nI i + 1) L := pk_in (i + 1) L (by omega) (nI_1 i) (by omega)
      have p2 : vp_in (nI i + 2) L := pk_in (i + 2) L (by omega) (nI_add i 2) (by omega)
      rw [ej, et]
      refine ⟨p0, nm_e ⟨p1, nm_e ⟨p2, by decide, nm_r e5 ⟨p2, br_c (fun _ => ⟨p2, ?_⟩) (fun _ => ?_)⟩⟩⟩⟩
      · exact sk_law79 (B := 1000 * (i + 4)) h hL z (by omega) (by omega) (by omega) (by omega) (fun cl nu hs a1 a2 a3 a4 a5 a6 a7 a8 a9 a10 a11 a12 a13 a14 a15 a16 a17 U T' h' hT' => ih (i + 4) cl nu hs a1 a2 a3 a4 a5 a6 a7 a8 a9 a10 a11 a12 a13 a14 a15 a16 a17 U T' h' hT' z (by omega))
      · exact sk_law79 (B := 1000 * (i + 4)) (t := 0) h hL z (by omega) (by omega) (by omega) (by omega) (fun cl nu hs a1 a2 a3 a4 a5 a6 a7 a8 a9 a10 a11 a12 a13 a14 a15 a16 a17 U T' h' hT' => ih (i + 4) cl nu hs a1 a2 a3 a4 a5 a6 a7 a8 a9 a10 a11 a12 a13 a14 a15 a16 a17 U T' h' hT' z (by omega))
theorem i_vc (xs : Nat → Int32) (L : Nat) (hL : L ≤ 260) : wpL_law (fun r => r = 1) L xs := by
  refine ⟨17, 388, by omega, by omega, ?_⟩
  refine sk_init (fun u h => ?_)
  obtain ⟨cl, nu, hs, a1, a2, a3, a4, a5, a6, a7, a8, a9, a10, a11, a12, a13, a14, a15, a16, a17⟩ := u
  exact ⟨L + 1, sk_law10 hL (L + 1) 0 cl nu hs a1 a2 a3 a4 a5 a6 a7 a8 a9 a10 a11 a12 a13 a14 a15 a16 a17 _ 0 h (by omega) (by omega) (by omega)⟩
end
