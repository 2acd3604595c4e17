section
/-- the graph: at most one arc, from bn to cn (bn = 9: there is none) -/
def pp_G (bn cn : Nat) (a1 a2 : Nat → Int32) : Prop := cn < 9 ∧ (∀ j, j < 9 → j ≠ bn → a1 j = -1) ∧ (bn < 9 → a1 bn = nI cn) ∧ (∀ j, j < 9 → a2 j = -1)
/-- the head beside 0 (9: there is none) -/
def pp_h (bn cn : Nat) : Nat := if 0 < cn ∧ cn ≤ bn ∧ bn < 9 then cn else 9
/-- how many paths there are -/
def pp_P (h : Nat) : Nat := if h < 9 then 2 else 1
/-- numbered: one way on from each block, the heads' numbers -/
def pp_N (h : Nat) (a3 a4 : Nat → Int32) : Prop := (∀ j, j < 9 → a3 j = 1) ∧ (∀ j, j < 9 → a4 j = if j = 0 then 0 else if j = h then 1 else -4)
theorem pp_h_pos (bn cn : Nat) : 0 < pp_h bn cn ∧ pp_h bn cn ≤ 9 ∨ 9 ≤ cn := by
  unfold pp_h
  split <;> omega
theorem pp_m1_le {n : Nat} (h : n < 2 ^ 31) : (-1 : Int32) ≤ nI n := by
  rw [Int32.le_iff_toInt_le, nI_toInt h, show (-1 : Int32).toInt = -1 from by decide]
  omega
theorem pp_cl0 : (0 : Int32).toNatClampNeg = 0 := by decide
section
variable {post : Int32 → Prop} {nb pa op sz : Int32} {a1 a2 a3 a4 a5 a6 a7 : Nat → Int32} {bn cn : Nat}
theorem pp_back_m1 {x : Int32} (h : post 0) : wpX_back post (nb, pa, op, sz, a1, a2, a3, a4, a5, a6, a7) x (-1) :=
  br_t (by decide) h
theorem pp_back (b c : Nat) (hb : b < 9) (hc : c < 9) (h1 : c ≤ b → post 1) (h0 : b < c → post 0) : wpX_back post (nb, pa, op, sz, a1, a2, a3, a4, a5, a6, a7) (nI b) (nI c) :=
  br_f (nI_pos (by omega)) (pk_lt b c h0 h1)
theorem pp_ways_m1 {k : Nat} (hk : k < 9) (h : post 0) : wpX_waysTo post (nb, pa, op, sz, a1, a2, a3, a4, a5, a6, a7) (nI k) (-1) :=
  br_t (pp_m1_le (by omega)) h
theorem pp_ways (b c : Nat) (hb : b < 9) (hc : c < 9) (h0 : c ≤ b → post 0) (h1 : b < c → post (a3 c)) : wpX_waysTo post (nb, pa, op, sz, a1, a2, a3, a4, a5, a6, a7) (nI b) (nI c) := by
  unfold wpX_waysTo
  dsimp only
  rw [nI_clamp (show c < 2 ^ 31 by omega)]
  exact pk_le c b h0 (fun z => ⟨pk_in c 9 hc, h1 z⟩)
theorem pp_isEnd (g : pp_G bn cn a1 a2) (k : Nat) (hk : k < 9) (h0 : k = bn → k < cn → post 0) (h1 : ¬ (k = bn ∧ k < cn) → post 1) : wpX_isEnd post (nb, pa, op, sz, a1, a2, a3, a4, a5, a6, a7) (nI k) := by
  obtain ⟨hc, g1, g2, g3⟩ := g
  unfold wpX_isEnd
  dsimp only
  rw [nI_clamp (show k < 2 ^ 31 by omega)]
  refine ⟨pk_in k 9 hk, ?_⟩
  by_cases e : k = bn
  · subst e
    rw [g2 hk, g3 k hk]
    exact br_f (nI_pos (by omega)) ⟨pk_in k 9 hk, pp_back k cn hk hc (fun z => br_f (by decide) (h1 (by omega))) (fun z => br_t rfl ⟨pk_in k 9 hk, pp_back_m1 (br_t rfl (h0 rfl z))⟩)⟩
  · rw [g1 k hk e]
    exact br_t (by decide) (h1 (fun z => e z.1))
end
end
section
section
variable {post : St2 → Prop} {J : Int32 → (Nat → Int32) → (Nat → Int32) → (Nat → Int32) → (Nat → Int32) → (Nat → Int32) → (Nat → Int32) → (Nat → Int32) → Prop} {nb pa op sz z : Int32} {a1 a2 a3 a4 a5 a6 a7 : Nat → Int32} {bn cn : Nat}
theorem pp_num28 {i : Nat} (g : pp_G bn cn a1 a2) (hi : i < 9) (h3 : ∀ j, i + 1 ≤ j → j < 9 → a3 j = 1)
    (hz0 : i = bn → i < cn → z = 0) (hz1 : ¬ (i = bn ∧ i < cn) → z = 1)
    (H : J (nI i + (-1)) a1 a2 (upd a3 i 1) (upd a4 i (-4)) a5 a6 a7) : wX_number_28 post J (nI i) z nb pa op sz a1 a2 a3 a4 a5 a6 a7 := by
  obtain ⟨hc, g1, g2, g3⟩ := g
  unfold wX_number_28
  rw [nI_clamp (show i < 2 ^ 31 by omega), g3 i hi]
  refine ⟨pk_in i 9 hi, ?_⟩
  by_cases e : i = bn
  · subst e
    rw [g2 hi]
    refine pp_ways i cn hi hc (fun l => ?_) (fun l => ?_)
    · refine ⟨pk_in i 9 hi, pp_ways_m1 hi ⟨pk_in i 9 hi, nm_r (e' := upd a3 i 1) ?_ ⟨pk_in i 9 hi, nm_e (nm_e H)⟩⟩⟩
      rw [hz1 (by omega)]
      rfl
    · refine ⟨pk_in i 9 hi, pp_ways_m1 hi ⟨pk_in i 9 hi, nm_r (e' := upd a3 i 1) ?_ ⟨pk_in i 9 hi, nm_e (nm_e H)⟩⟩⟩
      rw [hz0 rfl l, h3 cn (by omega) hc]
      rfl
  · rw [g1 i hi e]
    refine pp_ways_m1 hi ⟨pk_in i 9 hi, pp_ways_m1 hi ⟨pk_in i 9 hi, nm_r (e' := upd a3 i 1) ?_ ⟨pk_in i 9 hi, nm_e (nm_e H)⟩⟩⟩
    rw [hz1 (fun t => e t.1)]
    rfl
theorem pp_num11 (g : pp_G bn cn a1 a2)
    (H : ∀ b3 b4 : Nat → Int32, (∀ j, j < 9 → b3 j = 1) → (∀ j, j < 9 → b4 j = if j = 0 then 0 else -4) → ∃ n, wX_number_83 post nb pa op sz n 0 a1 a2 b3 b4 a5 a6 a7) :
    ∃ n, wX_number_11 post nb pa op sz n 8 a1 a2 a3 a4 a5 a6 a7 := by
  have t : wX_number_11 post nb pa op sz (9 + 1) (nI (8 + 1) + (-1)) a1 a2 a3 a4 a5 a6 a7 := by
    refine pk_loopD (fun n i (s : (Nat → Int32) × (Nat → Int32)) => wX_number_11 post nb pa op sz n (nI i + (-1)) a1 a2 s.1 s.2 a5 a6 a7) (fun i s => i ≤ 9 ∧ ∀ j, i ≤ j → j < 9 → s.1 j = 1 ∧ s.2 j = -4) ?_ ?_ 9 (a3, a4) ⟨by omega, fun j h h2 => absurd h2 (by omega)⟩
    · intro n s hI
      show wX_number_11 post nb pa op sz (n + 1) (nI 0 + (-1)) a1 a2 s.1 s.2 a5 a6 a7
      refine br_t (by decide) (nm_e (H s.1 (upd s.2 0 0) (fun j hj => (hI.2 j (by omega) hj).1) (fun j hj => ?_)))
      by_cases e : j = 0
      · rw [e, pk_us, if_pos rfl]
      · rw [pk_un e, if_neg e]
        exact (hI.2 j (by omega) hj).2
    · intro n i s hI hw
      show wX_number_11 post nb pa op sz (n + 1) (nI (i + 1) + (-1)) a1 a2 s.1 s.2 a5 a6 a7
      obtain ⟨hi, hI⟩ := hI
      have hw' : wX_number_11 post nb pa op sz n (nI i + (-1)) a1 a2 (upd s.1 i 1) (upd s.2 i (-4)) a5 a6 a7 := by
        refine hw (upd s.1 i 1, upd s.2 i (-4)) ⟨by omega, fun j h1 h2 => ?_⟩
        show upd s.1 i 1 j = 1 ∧ upd s.2 i (-4) j = -4
        by_cases e : j = i
        · rw [e, pk_us, pk_us]
          exact ⟨rfl, rfl⟩
        · rw [pk_un e, pk_un e]
          exact hI j (by omega) h2
      rw [pk_m1]
      refine br_f (nI_pos (by omega)) (pp_isEnd g i (by omega) (fun e1 e2 => br_t rfl ?_) (fun e => br_f (by decide) ?_))
      · exact pp_num28 g (by omega) (fun j h1 h2 => (hI j h1 h2).1) (fun _ _ => rfl) (fun t => absurd ⟨e1, e2⟩ t) hw'
      · exact pp_num28 g (by omega) (fun j h1 h2 => (hI j h1 h2).1) (fun e1 e2 => absurd ⟨e1, e2⟩ e) (fun _ => rfl) hw'
  rw [pk_m1] at t
  exact ⟨9 + 1, t⟩
theorem pp_num115 {i : Nat} (g : pp_G bn cn a1 a2) (hi : i < 9) (H : J (nI (i + 1)) a1 a2 a3 a4 a5 a6 a7) : wX_number_115 post J (nI i) nb pa op sz a1 a2 a3 a4 a5 a6 a7 := by
  unfold wX_number_115
  rw [nI_clamp (show i < 2 ^ 31 by omega), g.2.2.2 i hi]
  exact ⟨pk_in i 9 hi, pp_back_m1 (br_t rfl (nm_r (nI_1 i) H))⟩
theorem pp_num83 (g : pp_G bn cn a1 a2) (h4 : ∀ j, j < 9 → a4 j = if j = 0 then 0 else -4)
    (H : ∀ b4 : Nat → Int32, (∀ j, j < 9 → b4 j = if j = 0 ∨ (j = cn ∧ cn ≤ bn ∧ bn < 9) then 0 else -4) → ∃ n, wX_number_154 post nb op sz n 0 0 a1 a2 a3 b4 a5 a6 a7) :
    ∃ n, wX_number_83 post nb pa op sz n 0 a1 a2 a3 a4 a5 a6 a7 := by
  refine pk_loop (fun n i s => wX_number_83 post nb pa op sz n (nI i) a1 a2 a3 s a5 a6 a7) (fun i s => ∀ j, j < 9 → s j = if j = 0 ∨ (j = cn ∧ cn ≤ bn ∧ bn < i) then 0 else -4) 9 0 a4 (by omega) ?_ ?_ ?_
  · intro j hj
    rw [h4 j hj]
    by_cases e : j = 0
    · rw [if_pos e, if_pos (Or.inl e)]
    · rw [if_neg e, if_neg (by omega)]
  · intro n s hI
    exact pk_le 9 9 (fun _ => H s hI) (fun z => absurd z (by omega))
  · intro n i s hi hI hw
    show wX_number_83 post nb pa op sz (n + 1) (nI i) a1 a2 a3 s a5 a6 a7
    unfold wX_number_83
    refine pk_le 9 i (fun z => absurd z (by omega)) (fun _ => ⟨pk_in i 9 hi, ?_⟩)
    rw [nI_clamp (show i < 2 ^ 31 by omega)]
    by_cases e : i = bn
    · subst e
      rw [g.2.2.1 hi]
      refine pp_back i cn hi g.1 (fun l => br_f (by decide) ⟨pk_in i 9 hi, pk_in cn 9 g.1, nm_e ?_⟩) (fun l => br_t rfl ?_)
      · rw [nI_clamp (show cn < 2 ^ 31 by have := g.1; omega)]
        refine pp_num115 g hi (hw (upd s cn 0) (fun j hj => ?_))
        by_cases e : j = cn
        · rw [e, pk_us, if_pos (Or.inr ⟨rfl, l, by omega⟩)]
        · rw [pk_un e, hI j hj]
          by_cases e0 : j = 0
          · rw [if_pos (Or.inl e0), if_pos (Or.inl e0)]
          · rw [if_neg (by omega), if_neg (by omega)]
      · refine pp_num115 g hi (hw s (fun j hj => ?_))
        rw [hI j hj]
        by_cases e0 : j = 0
        · rw [if_pos (Or.inl e0), if_pos (Or.inl e0)]
        · rw [if_neg (by omega), if_neg (by omega)]
    · rw [g.2.1 i hi e]
      refine pp_back_m1 (br_t rfl (pp_num115 g hi (hw s (fun j hj => ?_))))
      rw [hI j hj]
      by_cases q : j = 0 ∨ (j = cn ∧ cn ≤ bn ∧ bn < i)
      · rw [if_pos q, if_pos (by omega)]
      · rw [if_neg q, if_neg (by omega)]
theorem pp_num154 {h : Nat} (h0 : 0 < h) (h9 : h ≤ 9) (h3 : ∀ j, j < 9 → a3 j = 1) (h4 : ∀ j, j < 9 → a4 j = if j = 0 ∨ j = h then 0 else -4)
    (H : ∀ b4 : Nat → Int32, pp_N h a3 b4 → post (1, nI (pp_P h), op, sz, a1, a2, a3, b4, a5, a6, a7)) :
    ∃ n, wX_number_154 post nb op sz n 0 0 a1 a2 a3 a4 a5 a6 a7 := by
  refine pk_loop (fun n i (s : Nat × (Nat → Int32)) => wX_number_154 post nb op sz n (nI i) (nI s.1) a1 a2 a3 s.2 a5 a6 a7) (fun i s => s.1 = (if 0 < i then 1 else 0) + (if h < i then 1 else 0) ∧ ∀ j, j < 9 → s.2 j = if j = 0 then 0 else if j = h then (if j < i then 1 else 0) else -4) 9 0 (0, a4) (by omega) ?_ ?_ ?_
  · refine ⟨by simp, fun j hj => ?_⟩
    show a4 j = _
    rw [h4 j hj]
    by_cases e : j = 0
    · rw [if_pos (Or.inl e), if_pos e]
    · by_cases e2 : j = h
      · rw [if_pos (Or.inr e2), if_neg e, if_pos e2, if_neg (by omega)]
      · rw [if_neg (by omega), if_neg e, if_neg e2]
  · intro n s hI
    show wX_number_154 post nb op sz (n + 1) (nI 9) (nI s.1) a1 a2 a3 s.2 a5 a6 a7
    have e : s.1 = pp_P h := by
      rw [hI.1]
      unfold pp_P
      by_cases q : h < 9
      · rw [if_pos (show 0 < 9 by omega), if_pos q, if_pos q]
      · rw [if_pos (show 0 < 9 by omega), if_neg q, if_neg q]
    rw [e]
    refine pk_le 9 9 (fun _ => H s.2 ⟨h3, fun j hj => ?_⟩) (fun z => absurd z (by omega))
    rw [hI.2 j hj, if_pos hj]
  · intro n i s hi hI hw
    show wX_number_154 post nb op sz (n + 1) (nI i) (nI s.1) a1 a2 a3 s.2 a5 a6 a7
    have hw' : ∀ (p : Nat) (b : Nat → Int32), p = (if 0 < i + 1 then 1 else 0) + (if h < i + 1 then 1 else 0) → (∀ j, j < 9 → b j = if j = 0 then 0 else if j = h then (if j < i + 1 then 1 else 0) else -4) → wX_number_154 post nb op sz n (nI (i + 1)) (nI p) a1 a2 a3 b a5 a6 a7 := fun p b hp hb => hw (p, b) ⟨hp, hb⟩
    obtain ⟨hp, hs⟩ := hI
    unfold wX_number_154
    refine pk_le 9 i (fun z => absurd z (by omega)) (fun _ => ⟨pk_in i 9 hi, ?_⟩)
    rw [nI_clamp (show i < 2 ^ 31 by omega)]
    by_cases e : i = 0 ∨ i = h
    · have ne : ¬ s.2 i = -4 := by
        rw [hs i hi]
        by_cases e0 : i = 0
        · rw [if_pos e0]; decide
        · rw [if_neg e0, if_pos (by omega), if_neg (by omega)]; decide
      refine br_f ne ⟨pk_in i 9 hi, nm_e ⟨pk_in i 9 hi, nm_r (e' := nI (s.1 + 1)) ?_ (nm_r (nI_1 i) (hw' (s.1 + 1) (upd s.2 i (nI s.1)) ?_ (fun j hj => ?_)))⟩⟩
      · rw [h3 i hi, nI_1]
      · rw [hp]
        by_cases e0 : i = 0
        · subst e0
          rw [if_neg (by omega), if_neg (by omega), if_pos (by omega), if_neg (by omega)]
        · rw [if_pos (by omega), if_neg (by omega), if_pos (by omega), if_pos (by omega)]
      · by_cases ej : j = i
        · rw [ej, pk_us, hp]
          by_cases e0 : i = 0
          · rw [if_neg (by omega), if_neg (by omega), if_pos e0]
            rfl
          · rw [if_pos (by omega), if_neg (by omega), if_neg e0, if_pos (by omega), if_pos (by omega)]
            rfl
        · rw [pk_un ej, hs j hj]
          by_cases e0 : j = 0
          · rw [if_pos e0, if_pos e0]
          · rw [if_neg e0, if_neg e0]
            by_cases e2 : j = h
            · rw [if_pos e2, if_pos e2]
              by_cases e3 : j < i
              · rw [if_pos e3, if_pos (by omega)]
              · rw [if_neg e3, if_neg (by omega)]
            · rw [if_neg e2, if_neg e2]
    · have eq : s.2 i = -4 := by
        rw [hs i hi, if_neg (by omega), if_neg (by omega)]
      refine br_t eq (nm_r (nI_1 i) (hw' s.1 s.2 ?_ (fun j hj => ?_)))
      · rw [hp, if_pos (show 0 < i by omega), if_pos (show 0 < i + 1 by omega)]
        by_cases e3 : h < i
        · rw [if_pos e3, if_pos (by omega)]
        · rw [if_neg e3, if_neg (by omega)]
      · rw [hs j hj]
        by_cases e0 : j = 0
        · rw [if_pos e0, if_pos e0]
        · rw [if_neg e0, if_neg e0]
          by_cases e2 : j = h
          · rw [if_pos e2, if_pos e2]
            by_cases e3 : j < i
            · rw [if_pos e3, if_pos (by omega)]
            · rw [if_neg e3, if_neg (by omega)]
          · rw [if_neg e2, if_neg e2]
theorem pp_number0 (g : pp_G bn cn a1 a2) (H : ∀ b3 b4 : Nat → Int32, pp_N (pp_h bn cn) b3 b4 → post (1, nI (pp_P (pp_h bn cn)), op, sz, a1, a2, b3, b4, a5, a6, a7)) :
    wpX_number post (0, pa, op, sz, a1, a2, a3, a4, a5, a6, a7) := by
  refine br_t rfl (pp_num11 g (fun b3 b4 h3 h4 => pp_num83 g h4 (fun c4 k4 => ?_)))
  have hh : 0 < pp_h bn cn ∧ pp_h bn cn ≤ 9 := by
    have := pp_h_pos bn cn
    have := g.1
    omega
  refine pp_num154 hh.1 hh.2 h3 (fun j hj => ?_) (fun d4 hd => H b3 d4 hd)
  rw [k4 j hj]
  by_cases e : j = 0
  · rw [if_pos (Or.inl e), if_pos (Or.inl e)]
  · unfold pp_h
    by_cases q : 0 < cn ∧ cn ≤ bn ∧ bn < 9
    · rw [if_pos q]
      by_cases e2 : j = cn
      · rw [if_pos (Or.inr ⟨e2, q.2⟩), if_pos (Or.inr e2)]
      · rw [if_neg (by omega), if_neg (by omega)]
    · rw [if_neg q, if_neg (by omega), if_neg (by omega)]
/-- number(): whether or not it has been called before -/
theorem pp_number (g : pp_G bn cn a1 a2) (hn : nb = 0 ∨ (nb = 1 ∧ pa = nI (pp_P (pp_h bn cn)) ∧ pp_N (pp_h bn cn) a3 a4))
    (H : ∀ b3 b4 : Nat → Int32, pp_N (pp_h bn cn) b3 b4 → post (1, nI (pp_P (pp_h bn cn)), op, sz, a1, a2, b3, b4, a5, a6, a7)) :
    wpX_number post (nb, pa, op, sz, a1, a2, a3, a4, a5, a6, a7) := by
  rcases hn with e | ⟨e1, e2, e3⟩
  · rw [e]
    exact pp_number0 g H
  · rw [e1, e2]
    exact br_f (by decide) (H a3 a4 e3)
end
end
section
section
variable {post : Int32 → St2 → Prop} {nb pa op sz x5 x6 x7 : Int32} {a1 a2 a3 a4 a5 a6 a7 : Nat → Int32} {bn cn : Nat}
/-- the run's end at a block without successors -/
theorem pp_r212 {k : Nat} (hk : k < 9) (ha : a1 k = -1) (H : post x7 (nb, pa, op, sz, a1, a2, a3, a4, upd a5 0 (a5 0 + 1), a6, a7)) :
    wX_run_212 post (nI k) 0 x7 nb pa op sz a1 a2 a3 a4 a5 a6 a7 := by
  unfold wX_run_212
  rw [nI_clamp (show k < 2 ^ 31 by omega), ha, pp_cl0]
  exact ⟨pk_in k 9 hk, br_f (by decide) ⟨pk_in 0 160 (by omega), pk_in 0 160 (by omega), nm_e H⟩⟩
/-- the run's end at a block that goes on -/
theorem pp_r212o {k c : Nat} {x4 : Int32} (hk : k < 9) (hc : c < 9) (ha : a1 k = nI c) (H : post x7 (nb, pa, op + 1, sz, a1, a2, a3, a4, a5, a6, a7)) :
    wX_run_212 post (nI k) x4 x7 nb pa op sz a1 a2 a3 a4 a5 a6 a7 := by
  unfold wX_run_212
  rw [nI_clamp (show k < 2 ^ 31 by omega), ha]
  exact ⟨pk_in k 9 hk, br_t (nI_pos' (by omega)) (nm_e H)⟩
theorem pp_added {post : Int32 → Prop} (g : pp_G 0 cn a1 a2) (h : 0 < cn) (H : post 0) : wpX_added post (nb, pa, op, sz, a1, a2, a3, a4, a5, a6, a7) (nI 0) (nI cn) := by
  unfold wpX_added
  dsimp only
  refine pp_isEnd g 0 (by omega) (fun _ _ => br_t rfl ?_) (fun z => absurd ⟨rfl, h⟩ z)
  unfold wX_added_13
  rw [nI_clamp (show 0 < 2 ^ 31 by omega)]
  exact ⟨pk_in 0 9 (by omega), br_t (g.2.2.1 (by omega)).symm H⟩
/-- one turn from block 0 -/
theorem pp_r54 {n i : Nat} (g : pp_G 0 cn a1 a2) (h4 : a4 0 = 0) (hi : i < 40)
    (H0 : cn = 0 → wX_run_54 post nb pa op sz n (nI 0) 0 x5 x6 (nI (i + 1)) 1 (nI (i + 1)) a1 a2 a3 a4 (upd a5 0 (a5 0 + 1)) a6 a7)
    (H1 : 0 < cn → wX_run_54 post nb pa op sz n (nI cn) 0 x5 x6 (nI (i + 1)) 0 (nI (i + 1)) a1 a2 a3 a4 a5 a6 a7) :
    wX_run_54 post nb pa op sz (n + 1) (nI 0) 0 x5 x6 (nI i) 1 (nI i) a1 a2 a3 a4 a5 a6 a7 := by
  have hc := g.1
  have g1 : a1 0 = nI cn := g.2.2.1 (by omega)
  have g2 : a2 0 = -1 := g.2.2.2 0 (by omega)
  unfold wX_run_54
  rw [nI_clamp (show 0 < 2 ^ 31 by omega), g1, g2]
  refine pk_le 40 i (fun z => absurd z (by omega)) (fun _ => br_f (by decide) ⟨pk_in 0 9 (by omega), nm_e ⟨pk_in 0 9 (by omega), br_t (by decide) ?_⟩⟩)
  unfold wX_run_129
  refine br_f (by decide) (nm_r (nI_1 i) (pp_back 0 cn (by omega) hc (fun l => br_f (by decide) ?_) (fun l => br_t rfl ?_)))
  · have e : cn = 0 := by omega
    subst e
    refine ⟨pk_in 0 160 (by omega), pk_in 0 160 (by omega), nm_e ⟨pk_in 0 9 (by omega), nm_r (e' := 0) ?_ ?_⟩⟩
    · rw [nI_clamp (show 0 < 2 ^ 31 by omega)]
      exact h4
    · unfold wX_run_187
      rw [nI_clamp (show 0 < 2 ^ 31 by omega), g1, pp_cl0]
      exact ⟨pk_in 0 9 (by omega), br_f (nI_pos (by omega)) (nm_r (nI_1 i) (H0 rfl))⟩
  · refine pp_added g l (nm_r (e' := 0) (by rfl) ?_)
    unfold wX_run_187
    rw [nI_clamp (show cn < 2 ^ 31 by omega), g.2.1 cn hc (by omega)]
    exact ⟨pk_in cn 9 hc, br_t (by decide) (nm_r (nI_1 i) (H1 l))⟩
/-- forty turns from block 0 back to it -/
theorem pp_r54_40 (g : pp_G 0 0 a1 a2) (h4 : a4 0 = 0) (h5 : ∀ j, j < 160 → a5 j = 0)
    (H : ∀ b5 : Nat → Int32, b5 0 = 40 → (∀ j, 0 < j → j < 160 → b5 j = 0) → post 40 (nb, pa, op + 1, sz, a1, a2, a3, a4, b5, a6, a7)) :
    ∃ n, wX_run_54 post nb pa op sz n 0 0 x5 x6 0 1 0 a1 a2 a3 a4 a5 a6 a7 := by
  refine pk_loop (fun n i s => wX_run_54 post nb pa op sz n (nI 0) 0 x5 x6 (nI i) 1 (nI i) a1 a2 a3 a4 s a6 a7) (fun i s => s 0 = nI i ∧ ∀ j, 0 < j → j < 160 → s j = 0) 40 0 a5 (by omega) ⟨h5 0 (by omega), fun j _ h => h5 j h⟩ ?_ ?_
  · intro n s hI
    show wX_run_54 post nb pa op sz (n + 1) (nI 0) 0 x5 x6 (nI 40) 1 (nI 40) a1 a2 a3 a4 s a6 a7
    unfold wX_run_54
    exact pk_le 40 40 (fun _ => pp_r212o (by omega) (by omega) (g.2.2.1 (by omega)) (H s hI.1 hI.2)) (fun z => absurd z (by omega))
  · intro n i s hi hI hw
    refine pp_r54 g h4 hi (fun _ => hw (upd s 0 (s 0 + 1)) ⟨?_, fun j h1 h2 => ?_⟩) (fun z => absurd z (by omega))
    · rw [pk_us, hI.1, nI_1]
    · rw [pk_un (by omega)]
      exact hI.2 j h1 h2
/-- the run: many out of range, or the whole run -/
theorem pp_run {p0 p1 : Int32} (g : pp_G bn cn a1 a2) (h5 : ∀ j, j < 160 → a5 j = 0)
    (Ho : (p1 < 0 ∨ 24 < p1) → post (-1) (0, pa, 0, sz, a1, a2, a3, a4, a5, a6, a7))
    (Hi : ¬ p1 < 0 → ¬ 24 < p1 → ∀ b3 b4 b5 : Nat → Int32, pp_N (pp_h bn cn) b3 b4 → b5 0 = (if bn = 0 ∧ cn = 0 then 40 else 1) → (∀ j, 0 < j → j < 160 → b5 j = 0) →
      post (if bn = 0 then (if cn = 0 then 40 else 1) else 0) (1, nI (pp_P (pp_h bn cn)), (if bn = 0 ∧ cn = 0 then 1 else 0), sz, a1, a2, b3, b4, b5, a6, a7)) :
    wpX_run post (0, pa, 0, sz, a1, a2, a3, a4, a5, a6, a7) p0 p1 := by
  unfold wpX_run
  dsimp only
  refine br_c (fun z => Ho (Or.inl z)) (fun z => br_c (fun z2 => ?_) (fun z2 => Ho (Or.inr (Int32.not_le.mp z2))))
  refine pp_number0 g (fun b3 b4 hN => ?_)
  dsimp only
  have z3 : ¬ 24 < p1 := Int32.not_lt.mpr z2
  have hb : b4 0 = 0 := hN.2 0 (by omega)
  refine nm_r (e' := 0) hb ?_
  have h50 : upd a5 0 (a5 0 + 1) 0 = 1 := by
    rw [pk_us, h5 0 (by omega)]
    rfl
  have h5r : ∀ j, 0 < j → j < 160 → upd a5 0 (a5 0 + 1) j = 0 := fun j h1 h2 => by
    rw [pk_un (by omega)]
    exact h5 j h2
  by_cases e : bn = 0
  · subst e
    have g1 : a1 0 = nI cn := g.2.2.1 (by omega)
    have hc := g.1
    rw [g1]
    refine br_f (nI_pos (by omega)) ?_
    by_cases ec : cn = 0
    · subst ec
      have Hi' := Hi z z3 b3 b4
      rw [if_pos ⟨rfl, rfl⟩, if_pos rfl, if_pos rfl, if_pos ⟨rfl, rfl⟩] at Hi'
      exact pp_r54_40 g hb h5 (fun b5 k0 k1 => Hi' b5 hN k0 k1)
    · have Hi' := Hi z z3 b3 b4 (upd a5 0 (a5 0 + 1)) hN
      rw [if_neg (by omega), if_pos rfl, if_neg ec, if_neg (by omega)] at Hi'
      refine ⟨2, pp_r54 (i := 0) g hb (by omega) (fun q => absurd q ec) (fun q => ?_)⟩
      unfold wX_run_54
      exact pk_le 40 1 (fun q => absurd q (by omega)) (fun _ => br_t rfl (pp_r212 hc (g.2.1 cn hc (by omega)) (Hi' h50 h5r)))
  · have Hi' := Hi z z3 b3 b4 (upd a5 0 (a5 0 + 1)) hN
    rw [if_neg (by omega), if_neg e, if_neg (by omega)] at Hi'
    have g1 : a1 0 = -1 := g.2.1 0 (by omega) (by omega)
    rw [g1]
    refine br_t (by decide) ⟨1, ?_⟩
    unfold wX_run_54
    exact br_f (by decide) (br_t rfl (pp_r212 (k := 0) (by omega) g1 (Hi' h50 h5r)))
end
end
section
section
variable {post : Int32 → St2 → Prop} {nb pa op sz : Int32} {a1 a2 a3 a4 a5 a6 a7 : Nat → Int32} {bn cn : Nat}
theorem pp_P_in (h : Nat) : 0 < pp_P h ∧ pp_P h ≤ 2 := by
  unfold pp_P
  split <;> omega
theorem pp_gone (g : pp_G bn cn a1 a2) (hn : nb = 0 ∨ (nb = 1 ∧ pa = nI (pp_P (pp_h bn cn)) ∧ pp_N (pp_h bn cn) a3 a4)) (h5 : ∀ j, 0 < j → j < 160 → a5 j = 0)
    (H : ∀ b3 b4 : Nat → Int32, pp_N (pp_h bn cn) b3 b4 → post (a5 0) (1, nI (pp_P (pp_h bn cn)), op, sz, a1, a2, b3, b4, a5, a6, a7)) :
    wpX_gone post (nb, pa, op, sz, a1, a2, a3, a4, a5, a6, a7) := by
  unfold wpX_gone
  dsimp only
  refine pp_number g hn (fun b3 b4 hN => ?_)
  dsimp only
  have hP := pp_P_in (pp_h bn cn)
  refine pk_loop (fun n i s => wX_gone_8 post 1 (nI (pp_P (pp_h bn cn))) op sz a1 a2 b3 b4 a5 a6 a7 n s (nI i)) (fun i s => s = if i = 0 then 0 else a5 0) (pp_P (pp_h bn cn)) 0 0 (by omega) (by rw [if_pos rfl]) ?_ ?_
  · intro n s hI
    rw [if_neg (by omega)] at hI
    rw [hI]
    exact pk_le (pp_P (pp_h bn cn)) (pp_P (pp_h bn cn)) (fun _ => H b3 b4 hN) (fun z => absurd z (by omega))
  · intro n i s hi hI hw
    refine pk_le (pp_P (pp_h bn cn)) i (fun z => absurd z (by omega)) (fun _ => ⟨pk_in i 160 (by omega), nm_e (nm_r (nI_1 i) (hw _ ?_))⟩)
    rw [nI_clamp (show i < 2 ^ 31 by omega), if_neg (by omega), hI]
    by_cases e : i = 0
    · rw [if_pos e, e, Int32.zero_add]
    · rw [if_neg e, h5 i (by omega) (by omega), Int32.add_zero]
theorem pp_unfinished {post : Int32 → Prop} (H : post op) : wpX_unfinished post (nb, pa, op, sz, a1, a2, a3, a4, a5, a6, a7) := H
end
section
variable {post : St2 → Prop} {nb pa op sz : Int32} {a1 a2 a3 a4 a5 a6 a7 : Nat → Int32} {bn cn : Nat}
/-- a path ends at an end with nothing left -/
theorem pp_s75 {n i q : Nat} (g : pp_G bn cn a1 a2) (hq : q < 9) (hi : i < 9) (he : ¬ (q = bn ∧ q < cn)) (H : post (nb, pa, op, sz, a1, a2, a3, a4, a5, a6, a7)) :
    wX_spread_75 post nb pa op (n + 1 + 1) (nI q) 0 1 (nI i) sz a1 a2 a3 a4 a5 a6 a7 := by
  unfold wX_spread_75
  refine pk_le 9 i (fun z => absurd z (by omega)) (fun _ => br_f (by decide) (pp_isEnd g q hq (fun e1 e2 => absurd ⟨e1, e2⟩ he) (fun _ => br_f (by decide) ?_)))
  unfold wX_spread_100
  refine br_f (by decide) (nm_e ?_)
  unfold wX_spread_75
  exact br_c (fun _ => H) (fun _ => br_t rfl H)
/-- the size of the path of block 0 -/
def pp_R (bn cn : Nat) : Nat := if bn = 0 ∧ 0 < cn then 2 else 1
theorem pp_spread {k : Nat} (g : pp_G bn cn a1 a2) (hN : pp_N (pp_h bn cn) a3 a4) (hk : k < pp_P (pp_h bn cn))
    (H : ∀ b6 : Nat → Int32, post (nb, pa, op, nI (if k = 0 then pp_R bn cn else 1), a1, a2, a3, a4, a5, b6, a7)) :
    wpX_spread post (nb, pa, op, sz, a1, a2, a3, a4, a5, a6, a7) (nI k) := by
  obtain ⟨h3, h4⟩ := hN
  have hc := g.1
  have hP := pp_P_in (pp_h bn cn)
  have hh : 0 < pp_h bn cn ∧ pp_h bn cn ≤ 9 := by
    have := pp_h_pos bn cn
    omega
  have hk9 : k = 1 → pp_h bn cn < 9 := by
    intro e
    unfold pp_P at hk
    by_cases q : pp_h bn cn < 9
    · exact q
    · rw [if_neg q] at hk
      omega
  have hkc : k = 1 → pp_h bn cn = cn ∧ 0 < cn ∧ cn ≤ bn := by
    intro e
    have q := hk9 e
    unfold pp_h at q ⊢
    by_cases w : 0 < cn ∧ cn ≤ bn ∧ bn < 9
    · rw [if_pos w]
      exact ⟨rfl, w.1, w.2.1⟩
    · rw [if_neg w] at q
      omega
  unfold wpX_spread
  dsimp only
  refine pk_loop (fun n i (s : Nat) => wX_spread_4 post (nI k) nb pa op sz a1 a2 a3 a4 a5 a6 a7 n (nI s) (nI i)) (fun i s => s = if k = 1 ∧ pp_h bn cn < i then pp_h bn cn else 0) 9 0 0 (by omega) (by rw [if_neg (by omega)]) ?_ ?_
  · intro n s hI
    show wX_spread_4 post (nI k) nb pa op sz a1 a2 a3 a4 a5 a6 a7 (n + 1) (nI s) (nI 9)
    unfold wX_spread_4
    refine pk_le 9 9 (fun _ => ?_) (fun z => absurd z (by omega))
    by_cases e : k = 1
    · rw [if_pos ⟨e, hk9 e⟩] at hI
      obtain ⟨w1, w2, w3⟩ := hkc e
      rw [hI, nI_clamp (show pp_h bn cn < 2 ^ 31 by omega)]
      refine ⟨pk_in _ 9 (hk9 e), nm_r (e' := 0) ?_ (nm_e ⟨1 + 1, ?_⟩)⟩
      · rw [h4 _ (hk9 e), if_neg (by omega), if_pos rfl, e]
        rfl
      · have H' := fun b6 => H b6
        rw [if_neg (by omega)] at H'
        exact pp_s75 (n := 0) (i := 0) g (hk9 e) (by omega) (by omega) (H' _)
    · have k0 : k = 0 := by omega
      subst k0
      rw [if_neg (by omega)] at hI
      subst hI
      rw [nI_clamp (show 0 < 2 ^ 31 by omega)]
      have H' := fun b6 => H b6
      rw [if_pos rfl] at H'
      refine ⟨pk_in 0 9 (by omega), nm_r (e' := 0) ?_ (nm_e ⟨2 + 1, ?_⟩)⟩
      · rw [h4 0 (by omega), if_pos rfl]
        rfl
      · unfold pp_R at H'
        by_cases w : bn = 0 ∧ 0 < cn
        · rw [if_pos w] at H'
          obtain ⟨w1, w2⟩ := w
          subst w1
          unfold wX_spread_75
          refine br_f (by decide) (br_f (by decide) (pp_isEnd g 0 (by omega) (fun _ _ => br_t rfl ?_) (fun z => absurd ⟨rfl, w2⟩ z)))
          unfold wX_spread_100
          rw [nI_clamp (show 0 < 2 ^ 31 by omega), g.2.2.1 (by omega)]
          refine br_t (by decide) (nm_r (e' := 0) (by rfl) ⟨pk_in 0 9 (by omega), pp_ways 0 cn (by omega) hc (fun z => absurd z (by omega)) (fun _ => ?_)⟩)
          rw [h3 cn hc]
          refine br_f (by decide) ⟨pk_in 0 9 (by omega), nm_e ?_⟩
          unfold wX_spread_160
          exact ⟨pk_in 1 9 (by omega), nm_e (nm_r (nI_1 1) (nm_r (nI_1 0) (pp_s75 (n := 0) (i := 1) g hc (by omega) (by omega) (H' _))))⟩
        · rw [if_neg w] at H'
          exact pp_s75 (n := 1) (i := 0) g (by omega) (by omega) (by omega) (H' _)
  · intro n i s hi hI hw
    have hw' : ∀ t : Nat, t = (if k = 1 ∧ pp_h bn cn < i + 1 then pp_h bn cn else 0) → wX_spread_4 post (nI k) nb pa op sz a1 a2 a3 a4 a5 a6 a7 n (nI t) (nI (i + 1)) := fun t ht => hw t ht
    show wX_spread_4 post (nI k) nb pa op sz a1 a2 a3 a4 a5 a6 a7 (n + 1) (nI s) (nI i)
    unfold wX_spread_4
    refine pk_le 9 i (fun z => absurd z (by omega)) (fun _ => ⟨pk_in i 9 hi, ?_⟩)
    rw [nI_clamp (show i < 2 ^ 31 by omega), h4 i hi, h3 i hi]
    by_cases e0 : i = 0
    · rw [if_pos e0]
      refine br_f (by decide) ⟨pk_in i 9 hi, br_f (by decide) ⟨pk_in i 9 hi, br_f (nI_pos (by omega)) (nm_r (nI_1 i) (hw' i ?_))⟩⟩
      rw [if_neg (by omega), e0]
    · rw [if_neg e0]
      by_cases e1 : i = pp_h bn cn
      · rw [if_pos e1]
        refine br_f (by decide) ⟨pk_in i 9 hi, br_f (by decide) ⟨pk_in i 9 hi, pk_lt k 1 (fun z => nm_r (nI_1 i) (hw' s ?_)) (fun z => nm_r (nI_1 i) (hw' i ?_))⟩⟩
        · rw [hI, if_neg (by omega), if_neg (by omega)]
        · rw [if_pos (by omega), e1]
      · rw [if_neg e1]
        refine br_t rfl (nm_r (nI_1 i) (hw' s ?_))
        rw [hI]
        by_cases q : k = 1 ∧ pp_h bn cn < i
        · rw [if_pos q, if_pos (by omega)]
        · rw [if_neg q, if_neg (by omega)]
end
section
variable {post : Int32 → St2 → Prop} {nb pa op sz : Int32} {a1 a2 a3 a4 a5 a6 a7 : Nat → Int32} {bn cn : Nat}
theorem pp_longest (g : pp_G bn cn a1 a2) (hn : nb = 0 ∨ (nb = 1 ∧ pa = nI (pp_P (pp_h bn cn)) ∧ pp_N (pp_h bn cn) a3 a4))
    (H : ∀ u : St2, post (nI (pp_R bn cn)) u) :
    wpX_longest post (nb, pa, op, sz, a1, a2, a3, a4, a5, a6, a7) := by
  unfold wpX_longest
  dsimp only
  refine pp_number g hn (fun b3 b4 hN => ?_)
  dsimp only
  have hP := pp_P_in (pp_h bn cn)
  have hR : 1 ≤ pp_R bn cn ∧ pp_R bn cn ≤ 2 := by
    unfold pp_R
    split <;> omega
  refine pk_loop (fun n i (s : Nat × Int32 × (Nat → Int32)) => wX_longest_8 post n (nI s.1) (nI i) 1 (nI (pp_P (pp_h bn cn))) op s.2.1 a1 a2 b3 b4 a5 s.2.2 a7) (fun i s => s.1 = if i = 0 then 0 else pp_R bn cn) (pp_P (pp_h bn cn)) 0 (0, sz, a6) (by omega) (by rw [if_pos rfl]) ?_ ?_
  · intro n s hI
    show wX_longest_8 post (n + 1) (nI s.1) (nI (pp_P (pp_h bn cn))) 1 (nI (pp_P (pp_h bn cn))) op s.2.1 a1 a2 b3 b4 a5 s.2.2 a7
    rw [if_neg (by omega)] at hI
    rw [hI]
    unfold wX_longest_8
    exact pk_le (pp_P (pp_h bn cn)) (pp_P (pp_h bn cn)) (fun _ => H _) (fun z => absurd z (by omega))
  · intro n i s hi hI hw
    have hw' : ∀ (t : Nat) (z : Int32) (b : Nat → Int32), t = pp_R bn cn → wX_longest_8 post n (nI t) (nI (i + 1)) 1 (nI (pp_P (pp_h bn cn))) op z a1 a2 b3 b4 a5 b a7 := fun t z b ht => hw (t, z, b) (by show t = _; rw [if_neg (by omega)]; exact ht)
    show wX_longest_8 post (n + 1) (nI s.1) (nI i) 1 (nI (pp_P (pp_h bn cn))) op s.2.1 a1 a2 b3 b4 a5 s.2.2 a7
    unfold wX_longest_8
    refine pk_le (pp_P (pp_h bn cn)) i (fun z => absurd z (by omega)) (fun _ => pp_spread g hN hi (fun b6 => ?_))
    dsimp only
    rw [hI]
    by_cases e : i = 0
    · rw [if_pos e, if_pos e]
      exact pk_le (pp_R bn cn) 0 (fun z => absurd z (by omega)) (fun _ => nm_r (nI_1 i) (hw' _ _ _ rfl))
    · rw [if_neg e, if_neg e]
      exact pk_le 1 (pp_R bn cn) (fun _ => nm_r (nI_1 i) (hw' _ _ _ rfl)) (fun z => absurd z (by omega))
end
end
section
theorem pp_ge9 {x : Int32} (h : nI 9 ≤ x) : ¬ x < 0 ∧ ¬ x < 9 ∧ 8 < x ∧ ¬ x < -1 ∧ 9 ≤ x := by
  rw [Int32.le_iff_toInt_le, show (nI 9).toInt = 9 from by decide] at h
  rw [Int32.lt_iff_toInt_lt, Int32.lt_iff_toInt_lt, Int32.lt_iff_toInt_lt, Int32.lt_iff_toInt_lt, Int32.le_iff_toInt_le, show (0 : Int32).toInt = 0 from by decide, show (9 : Int32).toInt = 9 from by decide, show (8 : Int32).toInt = 8 from by decide, show (-1 : Int32).toInt = -1 from by decide]
  omega
theorem pp_m1eq {x : Int32} (h : x < 0) (h1 : ¬ x < -1) : x = -1 := by
  rw [Int32.lt_iff_toInt_lt, show (0 : Int32).toInt = 0 from by decide] at h
  rw [Int32.lt_iff_toInt_lt, show (-1 : Int32).toInt = -1 from by decide] at h1
  apply Int32.toInt_inj.mp
  rw [show (-1 : Int32).toInt = -1 from by decide]
  omega
theorem pp_nI_m1 {n : Nat} (h : n < 2 ^ 31) : ¬ nI n < -1 ∧ ¬ nI n = -1 := by
  have e : (-1 : Int32).toInt = -1 := by decide
  constructor
  · rw [Int32.lt_iff_toInt_lt, nI_toInt h, e]
    omega
  · intro q
    have := congrArg Int32.toInt q
    rw [nI_toInt h, e] at this
    omega
theorem pp_init {post : St2 → Prop} {mc ms : Nat} (hm : 7 ≤ mc) (hs : 365 ≤ ms)
    (H : ∀ b1 b2 : Nat → Int32, (∀ j, j < 9 → b1 j = -1) → (∀ j, j < 9 → b2 j = -1) → post (0, 0, 0, 0, b1, b2, fun _ => 0, fun _ => 0, fun _ => 0, fun _ => 0, fun _ => 0)) :
    wpX_init post mc ms (0, 0, 0, 0) := by
  unfold wpX_init
  dsimp only
  refine ⟨by omega, by omega, by omega, by omega, by omega, by omega, by omega, by omega, by omega, by omega, by omega, by omega, by omega, by omega, ?_⟩
  refine pk_loop (fun n i (s : (Nat → Int32) × (Nat → Int32)) => wX_init_64 post mc ms 7 365 0 0 0 0 n (nI i) s.1 s.2 (fun _ => 0) (fun _ => 0) (fun _ => 0) (fun _ => 0) (fun _ => 0)) (fun i s => ∀ j, j < i → s.1 j = -1 ∧ s.2 j = -1) 9 0 ((fun _ => 0), (fun _ => 0)) (by omega) (fun j h => absurd h (by omega)) ?_ ?_
  · intro n s hI
    exact pk_le 9 9 (fun _ => H s.1 s.2 (fun j h => (hI j h).1) (fun j h => (hI j h).2)) (fun z => absurd z (by omega))
  · intro n i s hi hI hw
    refine pk_le 9 i (fun z => absurd z (by omega)) (fun _ => ⟨pk_in i 9 hi, nm_e ⟨pk_in i 9 hi, nm_e (nm_r (nI_1 i) (hw (_, _) (fun j hj => ?_)))⟩⟩)
    rw [nI_clamp (show i < 2 ^ 31 by omega)]
    show upd s.1 i (-1) j = -1 ∧ upd s.2 i (-1) j = -1
    by_cases e : j = i
    · rw [e, pk_us, pk_us]
      exact ⟨rfl, rfl⟩
    · rw [pk_un e, pk_un e]
      exact hI j (by omega)
section
variable {post : Int32 → Prop} {nb pa op sz : Int32} {a1 a2 a3 a4 a5 a6 a7 : Nat → Int32}
theorem pp_bad_in {k : Nat} (hk : k < 9) (H : post 0) : wpX_bad post (nb, pa, op, sz, a1, a2, a3, a4, a5, a6, a7) (nI k) :=
  br_f (nI_pos (by omega)) (br_t (nI_lt (b := 9) hk (by decide)) H)
theorem pp_bad_out {x : Int32} (h : x < 0 ∨ nI 9 ≤ x) (H : post 1) : wpX_bad post (nb, pa, op, sz, a1, a2, a3, a4, a5, a6, a7) x :=
  h.elim (fun z => br_t z H) (fun z => br_f (pp_ge9 z).1 (br_f (pp_ge9 z).2.1 H))
theorem pp_succ_out {x : Int32} (h : x < 0 ∨ nI 9 ≤ x) (H : post (-1)) : wpX_successors post (nb, pa, op, sz, a1, a2, a3, a4, a5, a6, a7) x := by
  unfold wpX_successors
  dsimp only
  exact pp_bad_out h (br_f (by decide) H)
theorem pp_succ0 {k : Nat} (hk : k < 9) (h1 : a1 k = -1) (H : post 0) : wpX_successors post (nb, pa, op, sz, a1, a2, a3, a4, a5, a6, a7) (nI k) := by
  unfold wpX_successors
  dsimp only
  rw [nI_clamp (show k < 2 ^ 31 by omega), h1]
  exact pp_bad_in hk (br_t rfl ⟨pk_in k 9 hk, br_f (by decide) H⟩)
theorem pp_succ1 {k c : Nat} (hk : k < 9) (hc : c < 9) (h1 : a1 k = nI c) (h2 : a2 k = -1) (H : post 1) : wpX_successors post (nb, pa, op, sz, a1, a2, a3, a4, a5, a6, a7) (nI k) := by
  unfold wpX_successors
  dsimp only
  rw [nI_clamp (show k < 2 ^ 31 by omega), h1, h2]
  exact pp_bad_in hk (br_t rfl ⟨pk_in k 9 hk, br_t (nI_pos' (by omega)) ⟨pk_in k 9 hk, br_f (by decide) H⟩⟩)
end
/-- what lead answers, and the arc that it lays -/
def pp_K (p0 p1 : Int32) (bn cn : Nat) (r : Int32) : Prop :=
  (bn < 9 ∧ p0 = nI bn ∧ p1 = nI cn ∧ r = 0) ∨ (bn = 9 ∧ (∃ k : Nat, k < 9 ∧ p0 = nI k) ∧ p1 = -1 ∧ r = 0) ∨ (bn = 9 ∧ (∃ k : Nat, k < 9 ∧ p0 = nI k) ∧ (p1 < -1 ∨ nI 9 ≤ p1) ∧ r = -1) ∨ (bn = 9 ∧ (p0 < 0 ∨ nI 9 ≤ p0) ∧ r = -1)
section
variable {post : Int32 → St2 → Prop} {a1 a2 a3 a4 a5 a6 a7 : Nat → Int32}
theorem pp_l105 {x4 : Int32} (h5 : ∀ j, j < 160 → a5 j = 0) (H : ∀ b5 : Nat → Int32, (∀ j, j < 160 → b5 j = 0) → post x4 (0, 0, 0, 0, a1, a2, a3, a4, b5, a6, a7)) :
    ∃ n, wX_lead_105 post x4 0 0 0 0 n 0 a1 a2 a3 a4 a5 a6 a7 := by
  refine pk_loop (fun n i s => wX_lead_105 post x4 0 0 0 0 n (nI i) a1 a2 a3 a4 s a6 a7) (fun _ s => ∀ j, j < 160 → s j = 0) 160 0 a5 (by omega) h5 ?_ ?_
  · intro n s hI
    exact pk_le 160 160 (fun _ => H s hI) (fun z => absurd z (by omega))
  · intro n i s hi hI hw
    refine pk_le 160 i (fun z => absurd z (by omega)) (fun _ => ⟨pk_in i 160 hi, nm_e (nm_r (nI_1 i) (hw _ (fun j hj => ?_)))⟩)
    by_cases e : j = (nI i).toNatClampNeg
    · rw [e, pk_us]
    · rw [pk_un e]
      exact hI j hj
theorem pp_lead {p0 p1 : Int32} (h1 : ∀ j, j < 9 → a1 j = -1) (h2 : ∀ j, j < 9 → a2 j = -1) (h5 : ∀ j, j < 160 → a5 j = 0)
    (H : ∀ (bn cn : Nat) (r : Int32) (b1 b2 b5 : Nat → Int32), pp_G bn cn b1 b2 → (∀ j, j < 160 → b5 j = 0) → pp_K p0 p1 bn cn r → post r (0, 0, 0, 0, b1, b2, a3, a4, b5, a6, a7)) :
    wpX_lead post (0, 0, 0, 0, a1, a2, a3, a4, a5, a6, a7) p0 p1 (-1) := by
  have G9 : pp_G 9 0 a1 a2 := ⟨by omega, fun j hj _ => h1 j hj, fun z => absurd z (by omega), h2⟩
  have H9 : ∀ r, pp_K p0 p1 9 0 r → post r (0, 0, 0, 0, a1, a2, a3, a4, a5, a6, a7) := fun r hr => H 9 0 r a1 a2 a5 G9 h5 hr
  unfold wpX_lead
  dsimp only
  have out : (p0 < 0 ∨ nI 9 ≤ p0) → pp_K p0 p1 9 0 (-1) := fun z => Or.inr (Or.inr (Or.inr ⟨rfl, z, rfl⟩))
  rcases pk_ix p0 (n := 9) (by omega) with h | h | ⟨k, hk, rfl⟩
  · exact pp_bad_out (Or.inl h) (br_f (by decide) (H9 _ (out (Or.inl h))))
  · exact pp_bad_out (Or.inr h) (br_f (by decide) (H9 _ (out (Or.inr h))))
  · refine pp_bad_in hk (br_t rfl ?_)
    have out1 : (p1 < -1 ∨ nI 9 ≤ p1) → pp_K (nI k) p1 9 0 (-1) := fun z => Or.inr (Or.inr (Or.inl ⟨rfl, ⟨k, hk, rfl⟩, z, rfl⟩))
    by_cases q : p1 < -1
    · exact br_t q (H9 _ (out1 (Or.inl q)))
    · rcases pk_ix p1 (n := 9) (by omega) with w | w | ⟨c, hc, rfl⟩
      · have e := pp_m1eq w q
        subst e
        refine br_f (by decide) (br_f (by decide) (br_f (by decide) (br_t (by decide) (br_t rfl (br_f (by decide) ?_)))))
        unfold wX_lead_41
        refine br_f (by decide) (br_t (by decide) ?_)
        unfold wX_lead_51
        rw [nI_clamp (show k < 2 ^ 31 by omega), h1 k hk, h2 k hk]
        exact pp_succ0 hk (h1 k hk) ⟨pk_in k 9 hk, br_t rfl ⟨pk_in k 9 hk, br_t rfl (H9 _ (Or.inr (Or.inl ⟨rfl, ⟨k, hk, rfl⟩, rfl, rfl⟩)))⟩⟩
      · exact br_f q (br_t (pp_ge9 w).2.2.2.2 (H9 _ (out1 (Or.inr w))))
      · have m := pp_nI_m1 (show c < 2 ^ 31 by omega)
        refine br_f q (br_f (nI_ge (b := 9) hc (by decide)) (br_f (by decide) (br_t (by decide) (br_f m.2 ?_))))
        unfold wX_lead_41
        refine br_t (nI_pos' (by omega)) ?_
        unfold wX_lead_51
        rw [nI_clamp (show k < 2 ^ 31 by omega), h1 k hk, h2 k hk]
        refine pp_succ0 hk (h1 k hk) ⟨pk_in k 9 hk, br_f (fun z => m.2 z.symm) ?_⟩
        unfold wX_lead_78
        rw [nI_clamp (show k < 2 ^ 31 by omega)]
        refine ⟨pk_in k 9 hk, nm_e ⟨pk_in k 9 hk, nm_e (pp_l105 h5 (fun b5 k5 => H k c 0 _ _ b5 ⟨hc, fun j hj hne => ?_, fun _ => pk_us, fun j hj => ?_⟩ k5 (Or.inl ⟨hk, rfl, rfl, rfl⟩)))⟩⟩
        · rw [pk_un hne]
          exact h1 j hj
        · by_cases e : j = k
          · rw [e, pk_us]
          · rw [pk_un e]
            exact h2 j hj
end
end
section
section
variable {post : Int32 → St0 → Prop} {mc ms kc ks : Nat} {x0 x1 x3 x5 x6 x7 x8 x9 x10 x11 x12 x13 x14 x15 x16 x17 z0 z1 : Int32} {bn cn : Nat}
/-- the checks: what the answers must be, by the law's own booleans -/
theorem pp_t302 (h : z1 = z0) (h10 : x10 = if x17 = 0 then 1 else if x0 = 0 then 2 else 1) (H : post 1 ()) : wL_lawOf_302 post mc ms x0 x10 x17 z0 z1 kc ks := by
  unfold wL_lawOf_302
  refine br_t h (br_c (fun e => ?_) (fun e => br_c (fun e2 => ?_) (fun e2 => ?_)))
  · rw [if_pos e] at h10
    exact br_t h10 H
  · rw [if_neg e, if_pos e2] at h10
    exact br_t h10 H
  · rw [if_neg e, if_neg e2] at h10
    exact br_t h10 H
theorem pp_t282 (h : z1 = z0) (h9 : x9 = if x14 = 0 then 0 else if x15 = 0 then 0 else 1) (h10 : x10 = if x17 = 0 then 1 else if x0 = 0 then 2 else 1) (H : post 1 ()) :
    wL_lawOf_282 post mc ms x0 x9 x10 x14 x15 x17 z0 z1 kc ks := by
  unfold wL_lawOf_282
  refine br_t h (br_c (fun e => ?_) (fun e => br_c (fun e2 => ?_) (fun e2 => ?_)))
  · rw [if_pos e] at h9
    exact pp_t302 h9 h10 H
  · rw [if_neg e, if_pos e2] at h9
    exact pp_t302 h9 h10 H
  · rw [if_neg e, if_neg e2] at h9
    exact pp_t302 h9 h10 H
theorem pp_t257 (h : z1 = z0) (h8 : x8 = if x14 = 0 then 0 else if x15 = 0 then 1 else 40) (h9 : x9 = if x14 = 0 then 0 else if x15 = 0 then 0 else 1) (h10 : x10 = if x17 = 0 then 1 else if x0 = 0 then 2 else 1) (H : post 1 ()) :
    wL_lawOf_257 post mc ms x0 x8 x9 x10 x14 x15 x17 z0 z1 kc ks := by
  unfold wL_lawOf_257
  refine br_t h (br_c (fun e => ?_) (fun e => br_c (fun e2 => ?_) (fun e2 => ?_)))
  · rw [if_pos e] at h8
    exact pp_t282 h8 h9 h10 H
  · rw [if_neg e, if_pos e2] at h8
    exact pp_t282 h8 h9 h10 H
  · rw [if_neg e, if_neg e2] at h8
    exact pp_t282 h8 h9 h10 H
theorem pp_t223 (h : z1 = z0) (h7 : x7 = if x14 = 0 then -1 else if x15 = 0 then (if x16 = 0 then 0 else 1) else 40) (h8 : x8 = if x14 = 0 then 0 else if x15 = 0 then 1 else 40) (h9 : x9 = if x14 = 0 then 0 else if x15 = 0 then 0 else 1) (h10 : x10 = if x17 = 0 then 1 else if x0 = 0 then 2 else 1) (H : post 1 ()) :
    wL_lawOf_223 post mc ms x0 x7 x8 x9 x10 x14 x15 x16 x17 z0 z1 kc ks := by
  unfold wL_lawOf_223
  refine br_t h (br_c (fun e => ?_) (fun e => br_c (fun e2 => br_c (fun e3 => ?_) (fun e3 => ?_)) (fun e2 => ?_)))
  · rw [if_pos e] at h7
    exact pp_t257 h7 h8 h9 h10 H
  · rw [if_neg e, if_pos e2, if_pos e3] at h7
    exact pp_t257 h7 h8 h9 h10 H
  · rw [if_neg e, if_pos e2, if_neg e3] at h7
    exact pp_t257 h7 h8 h9 h10 H
  · rw [if_neg e, if_neg e2] at h7
    exact pp_t257 h7 h8 h9 h10 H
theorem pp_t185 (h5 : x5 = if x12 = 0 then -1 else 0) (h6 : x6 = if x11 = 0 then -1 else if x13 = 0 then 0 else 1) (h7 : x7 = if x14 = 0 then -1 else if x15 = 0 then (if x16 = 0 then 0 else 1) else 40) (h8 : x8 = if x14 = 0 then 0 else if x15 = 0 then 1 else 40) (h9 : x9 = if x14 = 0 then 0 else if x15 = 0 then 0 else 1) (h10 : x10 = if x17 = 0 then 1 else if x0 = 0 then 2 else 1) (H : post 1 ()) :
    wL_lawOf_185 post mc ms x0 x5 x6 x7 x8 x9 x10 x11 x12 x13 x14 x15 x16 x17 kc ks := by
  have t : ∀ z : Int32, x5 = z → wL_lawOf_199 post mc ms x0 x6 x7 x8 x9 x10 x11 x13 x14 x15 x16 x17 z x5 kc ks := by
    intro z hz
    unfold wL_lawOf_199
    refine br_t hz (br_c (fun e => ?_) (fun e => br_c (fun e2 => ?_) (fun e2 => ?_)))
    · rw [if_pos e] at h6
      exact pp_t223 h6 h7 h8 h9 h10 H
    · rw [if_neg e, if_pos e2] at h6
      exact pp_t223 h6 h7 h8 h9 h10 H
    · rw [if_neg e, if_neg e2] at h6
      exact pp_t223 h6 h7 h8 h9 h10 H
  unfold wL_lawOf_185
  refine br_c (fun e => ?_) (fun e => ?_)
  · rw [if_pos e] at h5
    exact t _ h5
  · rw [if_neg e] at h5
    exact t _ h5
/-- no arc: the other booleans are false -/
theorem pp_t128_0 (hx : wL_lawOf_185 post mc ms x0 x5 x6 x7 x8 x9 x10 x11 x12 0 x14 0 0 0 kc ks) : wL_lawOf_128 post mc ms x0 x1 x5 x6 x7 x8 x9 x10 x11 x12 0 x14 kc ks := by
  unfold wL_lawOf_128
  refine br_t rfl ?_
  unfold wL_lawOf_147 wL_lawOf_148
  refine br_t rfl ?_
  unfold wL_lawOf_167 wL_lawOf_168
  exact br_t rfl hx
/-- an arc -/
theorem pp_t128_1 (hb : bn < 9) (hc : cn < 9)
    (H : ∀ y15 y16 y17 : Int32, y15 = (if bn = 0 ∧ cn = 0 then 1 else 0) → y16 = (if bn = 0 ∧ 0 < cn then 1 else 0) → y17 = (if bn < cn then 1 else 0) → wL_lawOf_185 post mc ms (nI bn) x5 x6 x7 x8 x9 x10 x11 x12 1 x14 y15 y16 y17 kc ks) :
    wL_lawOf_128 post mc ms (nI bn) (nI cn) x5 x6 x7 x8 x9 x10 x11 x12 1 x14 kc ks := by
  have t1 : ∀ y15 y16 : Int32, y15 = (if bn = 0 ∧ cn = 0 then 1 else 0) → y16 = (if bn = 0 ∧ 0 < cn then 1 else 0) → wL_lawOf_168 post mc ms (nI bn) (nI cn) x5 x6 x7 x8 x9 x10 x11 x12 1 x14 y15 y16 kc ks := by
    intro y15 y16 e15 e16
    unfold wL_lawOf_168
    refine br_f (by decide) (pk_le cn bn (fun z => ?_) (fun z => ?_))
    · exact H y15 y16 0 e15 e16 (by rw [if_neg (by omega)])
    · exact H y15 y16 1 e15 e16 (by rw [if_pos z])
  have t2 : ∀ y15 : Int32, y15 = (if bn = 0 ∧ cn = 0 then 1 else 0) → wL_lawOf_148 post mc ms (nI bn) (nI cn) x5 x6 x7 x8 x9 x10 x11 x12 1 x14 y15 kc ks := by
    intro y15 e15
    unfold wL_lawOf_148
    refine br_f (by decide) (pk_eq bn 0 (fun z => pk_le cn 0 (fun z2 => ?_) (fun z2 => ?_)) (fun z => ?_))
    · exact t1 y15 0 e15 (by rw [if_neg (by omega)])
    · exact t1 y15 1 e15 (by rw [if_pos ⟨z, z2⟩])
    · exact t1 y15 0 e15 (by rw [if_neg (by omega)])
  unfold wL_lawOf_128
  refine br_f (by decide) (pk_eq bn 0 (fun z => pk_eq cn 0 (fun z2 => ?_) (fun z2 => ?_)) (fun z => ?_))
  · exact t2 1 (by rw [if_pos ⟨z, z2⟩])
  · exact t2 0 (by rw [if_neg (by omega)])
  · exact t2 0 (by rw [if_neg (by omega)])
/-- ran, or not -/
theorem pp_t111 (ho : (x3 < 0 ∨ 24 < x3) → wL_lawOf_128 post mc ms x0 x1 x5 x6 x7 x8 x9 x10 x11 x12 x13 0 kc ks) (hi : ¬ x3 < 0 → ¬ 24 < x3 → wL_lawOf_128 post mc ms x0 x1 x5 x6 x7 x8 x9 x10 x11 x12 x13 1 kc ks) :
    wL_lawOf_111 post mc ms x0 x1 x3 x5 x6 x7 x8 x9 x10 x11 x12 x13 kc ks := by
  unfold wL_lawOf_111
  exact br_c (fun z => ho (Or.inl z)) (fun z => br_c (fun z2 => ho (Or.inr z2)) (fun z2 => hi z z2))
end
end
section
/-- what successors answers -/
def pp_S (p0 : Int32) (bn : Nat) (r : Int32) : Prop := (bn < 9 → r = 1) ∧ (bn = 9 → (∃ k : Nat, k < 9 ∧ p0 = nI k) → r = 0) ∧ (bn = 9 → (p0 < 0 ∨ nI 9 ≤ p0) → r = -1)
theorem pp_in_out {x : Int32} (h : ∃ k : Nat, k < 9 ∧ x = nI k) (h2 : x < 0 ∨ nI 9 ≤ x) : False := by
  obtain ⟨k, hk, rfl⟩ := h
  exact h2.elim (fun z => nI_pos (by omega) z) (fun z => nI_ge (b := 9) hk (by decide) z)
theorem pp_succ_K {post : Int32 → Prop} {nb pa op sz p0 p1 r : Int32} {a1 a2 a3 a4 a5 a6 a7 : Nat → Int32} {bn cn : Nat} (g : pp_G bn cn a1 a2) (hK : pp_K p0 p1 bn cn r)
    (H : ∀ y : Int32, pp_S p0 bn y → post y) : wpX_successors post (nb, pa, op, sz, a1, a2, a3, a4, a5, a6, a7) p0 := by
  rcases hK with ⟨hb, e0, e1, e2⟩ | ⟨hb, hk, e1, e2⟩ | ⟨hb, hk, e1, e2⟩ | ⟨hb, ho, e2⟩
  · rw [e0]
    exact pp_succ1 hb g.1 (g.2.2.1 hb) (g.2.2.2 bn hb) (H 1 ⟨fun _ => rfl, fun z => absurd z (by omega), fun z => absurd z (by omega)⟩)
  · have S := H 0 ⟨fun z => absurd z (by omega), fun _ _ => rfl, fun _ z => absurd z (fun z => pp_in_out hk z)⟩
    obtain ⟨k, k9, e⟩ := hk
    rw [e]
    exact pp_succ0 k9 (g.2.1 k k9 (by omega)) S
  · have S := H 0 ⟨fun z => absurd z (by omega), fun _ _ => rfl, fun _ z => absurd z (fun z => pp_in_out hk z)⟩
    obtain ⟨k, k9, e⟩ := hk
    rw [e]
    exact pp_succ0 k9 (g.2.1 k k9 (by omega)) S
  · exact pp_succ_out ho (H (-1) ⟨fun z => absurd z (by omega), fun _ z => absurd z (fun z => pp_in_out z ho), fun _ _ => rfl⟩)
/-- what run, gone and unfinished answer -/
def pp_A (p3 : Int32) (bn cn : Nat) (r61 r87 r113 : Int32) : Prop :=
  ((p3 < 0 ∨ 24 < p3) → r61 = -1 ∧ r87 = 0 ∧ r113 = 0) ∧ (¬ p3 < 0 → ¬ 24 < p3 → r61 = (if bn = 0 then (if cn = 0 then 40 else 1) else 0) ∧ r87 = (if bn = 0 ∧ cn = 0 then 40 else 1) ∧ r113 = (if bn = 0 ∧ cn = 0 then 1 else 0))
section
variable {post : Int32 → St0 → Prop} {mc ms kc ks : Nat} {p0 p1 p3 r r60 r61 r87 r113 r114 x11 x12 : Int32} {bn cn : Nat}
theorem pp_f0 (hA : pp_A p3 9 cn r61 r87 r113) (h114 : r114 = nI (pp_R 9 cn)) (h5 : r = if x12 = 0 then -1 else 0) (h6 : r60 = if x11 = 0 then -1 else 0) (H : post 1 ()) :
    wL_lawOf_111 post mc ms p0 p1 p3 r r60 r61 r87 r113 r114 x11 x12 0 kc ks := by
  have e114 : r114 = 1 := by
    rw [h114]
    unfold pp_R
    rw [if_neg (by omega)]
    rfl
  subst e114
  have h6' : r60 = if x11 = 0 then -1 else if (0 : Int32) = 0 then 0 else 1 := h6
  refine pp_t111 (fun z => pp_t128_0 ?_) (fun z z2 => pp_t128_0 ?_)
  · obtain ⟨e1, e2, e3⟩ := hA.1 z
    subst e1 e2 e3
    exact pp_t185 h5 h6' (by decide) (by decide) (by decide) (by rw [if_pos rfl]) H
  · obtain ⟨e1, e2, e3⟩ := hA.2 z z2
    rw [if_neg (by omega)] at e1 e2 e3
    subst e1 e2 e3
    exact pp_t185 h5 h6' (by decide) (by decide) (by decide) (by rw [if_pos rfl]) H
theorem pp_f1 (hb : bn < 9) (hc : cn < 9) (hA : pp_A p3 bn cn r61 r87 r113) (h114 : r114 = nI (pp_R bn cn)) (H : post 1 ()) :
    wL_lawOf_111 post mc ms (nI bn) (nI cn) p3 0 1 r61 r87 r113 r114 1 1 1 kc ks := by
  have h10 : ∀ y17 : Int32, y17 = (if bn < cn then 1 else 0) → r114 = if y17 = 0 then 1 else if nI bn = 0 then 2 else 1 := by
    intro y17 e17
    rw [h114, e17]
    unfold pp_R
    by_cases l : bn < cn
    · rw [if_pos l, if_neg (show ¬ (1 : Int32) = 0 from by decide)]
      by_cases eb : bn = 0
      · subst eb
        rw [if_pos ⟨rfl, l⟩, if_pos nI_0]
        rfl
      · rw [if_neg (by omega), if_neg (nI_ne0 (by omega) (by omega))]
        rfl
    · rw [if_neg l, if_pos rfl, if_neg (by omega)]
      rfl
  refine pp_t111 (fun z => pp_t128_1 hb hc (fun y15 y16 y17 e15 e16 e17 => ?_)) (fun z z2 => pp_t128_1 hb hc (fun y15 y16 y17 e15 e16 e17 => ?_))
  · obtain ⟨e1, e2, e3⟩ := hA.1 z
    exact pp_t185 (by decide) (by decide) (by rw [if_pos rfl]; exact e1) (by rw [if_pos rfl]; exact e2) (by rw [if_pos rfl]; exact e3) (h10 y17 e17) H
  · obtain ⟨e1, e2, e3⟩ := hA.2 z z2
    refine pp_t185 (by decide) (by decide) ?_ ?_ ?_ (h10 y17 e17) H
    · by_cases eb : bn = 0
      · by_cases ec : cn = 0
        · rw [if_pos eb, if_pos ec] at e1
          rw [if_pos ⟨eb, ec⟩] at e15
          rw [if_neg (show ¬ (bn = 0 ∧ 0 < cn) by omega)] at e16
          rw [e1, e15, e16]
          decide
        · rw [if_pos eb, if_neg ec] at e1
          rw [if_neg (show ¬ (bn = 0 ∧ cn = 0) by omega)] at e15
          rw [if_pos (show bn = 0 ∧ 0 < cn by omega)] at e16
          rw [e1, e15, e16]
          decide
      · rw [if_neg eb] at e1
        rw [if_neg (show ¬ (bn = 0 ∧ cn = 0) by omega)] at e15
        rw [if_neg (show ¬ (bn = 0 ∧ 0 < cn) by omega)] at e16
        rw [e1, e15, e16]
        decide
    · rw [e2, e15, if_neg (show ¬ (1 : Int32) = 0 from by decide)]
      by_cases q : bn = 0 ∧ cn = 0
      · rw [if_pos q, if_pos q, if_neg (show ¬ (1 : Int32) = 0 from by decide)]
      · rw [if_neg q, if_neg q, if_pos rfl]
    · rw [e3, e15, if_neg (show ¬ (1 : Int32) = 0 from by decide)]
      by_cases q : bn = 0 ∧ cn = 0
      · rw [if_pos q, if_neg (show ¬ (1 : Int32) = 0 from by decide)]
      · rw [if_neg q, if_pos rfl]
theorem pp_8 {k : Nat} (hk : k < 9) : ¬ (8 : Int32) < nI k := nI_nlt (a := 8) (by omega) (by decide)
theorem pp_fin (hK : pp_K p0 p1 bn cn r) (hc : cn < 9) (hS : pp_S p0 bn r60) (hA : pp_A p3 bn cn r61 r87 r113) (h114 : r114 = nI (pp_R bn cn)) (H : post 1 ()) :
    (p0 < 0 → wL_lawOf_71 post mc ms p0 p1 p3 r r60 r61 r87 r113 r114 kc ks) ∧ (¬ p0 < 0 → ((8 < p0 → wL_lawOf_71 post mc ms p0 p1 p3 r r60 r61 r87 r113 r114 kc ks) ∧ (¬ 8 < p0 → wL_lawOf_72 post mc ms p0 p1 p3 r r60 r61 r87 r113 r114 1 kc ks))) := by
  rcases hK with ⟨hb, e0, e1, e2⟩ | ⟨hb, hk, e1, e2⟩ | ⟨hb, hk, e1, e2⟩ | ⟨hb, ho, e2⟩
  · rw [e0, e1, e2, hS.1 hb]
    refine br_f (nI_pos (by omega)) (br_f (pp_8 hb) ?_)
    unfold wL_lawOf_72
    refine br_f (by decide) (br_f (pp_nI_m1 (by omega)).1 (br_f (pp_8 hc) ?_))
    unfold wL_lawOf_95
    exact br_f (by decide) (br_f (nI_pos (by omega)) (pp_f1 hb hc hA h114 H))
  · rw [hS.2.1 hb hk, e1, e2]
    obtain ⟨k, k9, e⟩ := hk
    rw [e]
    rw [hb] at hA h114
    refine br_f (nI_pos (by omega)) (br_f (pp_8 k9) ?_)
    unfold wL_lawOf_72
    refine br_f (by decide) (br_f (by decide) (br_f (by decide) ?_))
    unfold wL_lawOf_95
    exact br_f (by decide) (br_t (by decide) (pp_f0 hA h114 (by decide) (by decide) H))
  · rw [hS.2.1 hb hk, e2]
    obtain ⟨k, k9, e⟩ := hk
    rw [e]
    rw [hb] at hA h114
    refine br_f (nI_pos (by omega)) (br_f (pp_8 k9) ?_)
    have t : wL_lawOf_94 post mc ms (nI k) p1 p3 (-1) 0 r61 r87 r113 r114 1 kc ks := by
      unfold wL_lawOf_94 wL_lawOf_95
      exact br_t rfl (pp_f0 hA h114 (by decide) (by decide) H)
    unfold wL_lawOf_72
    refine br_f (by decide) (e1.elim (fun z => br_t z t) (fun z => br_f (pp_ge9 z).2.2.2.1 (br_t (pp_ge9 z).2.2.1 t)))
  · rw [hS.2.2 hb ho, e2]
    rw [hb] at hA h114
    have t : wL_lawOf_71 post mc ms p0 p1 p3 (-1) (-1) r61 r87 r113 r114 kc ks := by
      unfold wL_lawOf_71 wL_lawOf_72
      refine br_t rfl ?_
      unfold wL_lawOf_94 wL_lawOf_95
      exact br_t rfl (pp_f0 hA h114 (by decide) (by decide) H)
    exact ho.elim (fun z => br_t z t) (fun z => br_f (pp_ge9 z).1 (br_t (pp_ge9 z).2.2.1 t))
theorem pp_lawOf {p2 : Int32} (H : post 1 ()) : wpL_lawOf post 206 3296 () p0 p1 p2 p3 := by
  unfold wpL_lawOf
  refine ⟨by decide, by decide, 205, 3285, by decide, by decide, pp_init (by decide) (by decide) (fun b1 b2 h1 h2 => ?_)⟩
  dsimp only
  refine pp_lead h1 h2 (fun _ _ => rfl) (fun bn cn r c1 c2 c5 g h5 hK => ?_)
  dsimp only
  refine pp_succ_K g hK (fun r60 hS => ?_)
  refine pp_run g h5 (fun z => ?_) (fun z z2 b3 b4 b5 hN k0 k1 => ?_)
  · dsimp only
    refine pp_gone g (Or.inl rfl) (fun j _ hj => h5 j hj) (fun b3 b4 hN => ?_)
    dsimp only
    refine pp_unfinished (pp_longest g (Or.inr ⟨rfl, rfl, hN⟩) (fun u => ?_))
    obtain ⟨f1, f2, f3, f4, d1, d2, d3, d4, d5, d6, d7⟩ := u
    exact pp_fin hK g.1 hS ⟨fun _ => ⟨rfl, h5 0 (by omega), rfl⟩, fun q1 q2 => absurd z (fun q => q.elim q1 q2)⟩ rfl H
  · dsimp only
    refine pp_gone g (Or.inr ⟨rfl, rfl, hN⟩) k1 (fun b3 b4 hN => ?_)
    dsimp only
    refine pp_unfinished (pp_longest g (Or.inr ⟨rfl, rfl, hN⟩) (fun u => ?_))
    obtain ⟨f1, f2, f3, f4, d1, d2, d3, d4, d5, d6, d7⟩ := u
    exact pp_fin hK g.1 hS ⟨fun q => absurd q (fun q => q.elim z z2), fun _ _ => ⟨rfl, k0, rfl⟩⟩ rfl H
end
theorem pp_cell {post : Int32 → Prop} {L : Nat} {xs : Nat → Int32} (i : Nat) (hL : L ≤ 4) (hi : i < 4) (H : ∀ x, post x) : wpL_cellAt post L xs () (nI i) :=
  pk_le L i (fun _ => H 0) (fun z => ⟨pk_in i L z, H _⟩)
theorem i_vc (xs : Nat → Int32) (L : Nat) (hL : L ≤ 4) : wpL_law (fun r => r = 1) L xs := by
  unfold wpL_law
  exact pp_cell 0 hL (by omega) (fun p0 => pp_cell 1 hL (by omega) (fun p1 => pp_cell 2 hL (by omega) (fun p2 => pp_cell 3 hL (by omega) (fun p3 => ⟨206, 3296, by decide, by decide, pp_lawOf rfl⟩))))
end
