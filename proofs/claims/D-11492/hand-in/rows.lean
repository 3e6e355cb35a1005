section
/-! small facts -/
theorem fz_in {x : Int32} {n : Nat} (h : 0 ≤ x.toInt ∧ x.toInt < n) : vp_in x n := vp_in_iff.mpr h
theorem fz_01 : (0 : Int32) + 1 = 1 := by decide
theorem fz_12 : (1 : Int32) + 1 = 2 := by decide
theorem fz_23 : (2 : Int32) + 1 = 3 := by decide
theorem fz_34 : (3 : Int32) + 1 = 4 := by decide
theorem fz_L1 : ∀ i, i < 26 → 2 ≤ i → ¬ nI i = 1 := by decide +kernel
theorem fz_L2 : ∀ i, i < 26 → ¬ (1000 : Int32) = nI i - 1 := by decide +kernel
/-- a next state: none, 0 or 1 -/
def fz_T (p : Int32) : Prop := p = -1 ∨ p = 0 ∨ p = 1
/-- the entries of the two states -/
def fz_A (a : Nat → Int32) (E F : Int32) : Prop := a 0 = 0 ∧ a 1 = E ∧ a 2 = 0 ∧ a 3 = F
/-- an entry's output -/
abbrev fz_o (E : Int32) : Int32 := E - E / 3 * 3 - 1
/-- an entry's next state -/
abbrev fz_p (E : Int32) : Int32 := E / 3 - 1
section
variable {sc lc cc cu st ic : Int32} {a1 a2 a3 a4 a5 a6 a7 a8 a9 a10 : Nat → Int32}
theorem fz_next {P : Int32 → Prop} {s i v : Int32} (k : Nat) (hk : k < 10) (e : 2 * s + i = nI k) (hv : fz_p (a1 k) = v) (h : P v) : wpX_next P (2, sc, lc, cc, cu, st, ic, a1, a2, a3, a4, a5, a6, a7, a8, a9, a10) s i := by
  refine ⟨?_, by decide, ?_⟩
  · rw [e]
    exact vp_in_nI hk (by omega)
  · rw [e, nI_clamp (by omega)]
    rw [← hv] at h
    exact h
theorem fz_output {P : Int32 → Prop} {s i v : Int32} (k : Nat) (hk : k < 10) (e : 2 * s + i = nI k) (hv : fz_o (a1 k) = v) (h : P v) : wpX_output P (2, sc, lc, cc, cu, st, ic, a1, a2, a3, a4, a5, a6, a7, a8, a9, a10) s i := by
  refine ⟨?_, by decide, ?_⟩
  · rw [e]
    exact vp_in_nI hk (by omega)
  · rw [e, nI_clamp (by omega)]
    rw [← hv] at h
    exact h
/-- words of length 1 -/
theorem fz_sp1 {P : Int32 → Prop} {s t i x y : Int32} (k j : Nat) (hk : k < 10) (hj : j < 10) (ek : 2 * s + i = nI k) (ej : 2 * t + i = nI j) (hx : fz_o (a1 k) = x) (hy : fz_o (a1 j) = y)
    (h0 : (x = -1 ∨ y = -1 ∨ x = y) → P 0) (h1 : ¬ (x = -1 ∨ y = -1 ∨ x = y) → P 1) : wpX_splits P (2, sc, lc, cc, cu, st, ic, a1, a2, a3, a4, a5, a6, a7, a8, a9, a10) s t i 1 :=
  br_t rfl (fz_output k hk ek hx (fz_output j hj ej hy (br_c (fun a => h0 (Or.inl a)) (fun a => br_c (fun b => h0 (Or.inr (Or.inl b))) (fun b => br_c (fun c => h0 (Or.inr (Or.inr c))) (fun c => h1 (fun z => z.elim a (fun z => z.elim b c))))))))
/-- an entry 0 splits nothing -/
theorem fz_sp0 {P : Int32 → Prop} {s t i L : Int32} (k j : Nat) (hk : k < 10) (hj : j < 10) (ek : 2 * s + i = nI k) (ej : 2 * t + i = nI j) (hx : a1 k = 0) (h0 : P 0) : wpX_splits P (2, sc, lc, cc, cu, st, ic, a1, a2, a3, a4, a5, a6, a7, a8, a9, a10) s t i L :=
  br_c (fun e => fz_output k hk ek (v := -1) (by rw [hx]; decide) (fz_output j hj ej rfl (br_t rfl h0)))
    (fun e => fz_next k hk ek (v := -1) (by rw [hx]; decide) (fz_next j hj ej rfl (br_t rfl h0)))
/-- longer words -/
theorem fz_sp2 {P : Int32 → Prop} {s t i L p q : Int32} (k j : Nat) (hk : k < 10) (hj : j < 10) (ek : 2 * s + i = nI k) (ej : 2 * t + i = nI j) (hp : fz_p (a1 k) = p) (hq : fz_p (a1 j) = q)
    (tp : fz_T p) (tq : fz_T q) (h1 : ¬ L = 1) (hL : ¬ (1000 : Int32) = L - 1) (l0 : a2 0 = 1000) (l6 : a2 6 = 1000) (hd : p = q ∨ (a2 1 = 1000 ∧ a2 5 = 1000)) (h0 : P 0) : wpX_splits P (2, sc, lc, cc, cu, st, ic, a1, a2, a3, a4, a5, a6, a7, a8, a9, a10) s t i L := by
  refine br_f h1 (fz_next k hk ek hp (fz_next j hj ej hq ?_))
  have n0 : ¬ a2 0 = L - 1 := by rw [l0]; exact hL
  have n6 : ¬ a2 6 = L - 1 := by rw [l6]; exact hL
  rcases tp with rfl | rfl | rfl
  · exact br_t rfl h0
  · refine br_f (by decide) ?_
    rcases tq with rfl | rfl | rfl
    · exact br_t rfl h0
    · exact br_f (by decide) ⟨fz_in (by decide), br_f n0 h0⟩
    · have n1 : ¬ a2 1 = L - 1 := by
        rcases hd with z | z
        · exact absurd z (by decide)
        · rw [z.1]; exact hL
      exact br_f (by decide) ⟨fz_in (by decide), br_f n1 h0⟩
  · refine br_f (by decide) ?_
    rcases tq with rfl | rfl | rfl
    · exact br_t rfl h0
    · have n1 : ¬ a2 5 = L - 1 := by
        rcases hd with z | z
        · exact absurd z (by decide)
        · rw [z.2]; exact hL
      exact br_f (by decide) ⟨fz_in (by decide), br_f n1 h0⟩
    · exact br_f (by decide) ⟨fz_in (by decide), br_f n6 h0⟩
end
end
section
section
variable {sc lc cc cu st ic : Int32} {a1 a2 a3 a4 a5 a6 a7 a8 a9 a10 : Nat → Int32}
abbrev fz_J : Type := Int32 → (Nat → Int32) → (Nat → Int32) → (Nat → Int32) → (Nat → Int32) → (Nat → Int32) → (Nat → Int32) → (Nat → Int32) → (Nat → Int32) → (Nat → Int32) → (Nat → Int32) → Prop
/-- a pair that isn't split now -/
theorem fz_skip {post : St2 → Prop} {J : fz_J} {L x2 s t : Int32} {m : Nat} (k : Nat) (hk : k < 25) (hlt : ¬ (2 : Int32) * 2 ≤ x2) (es : x2 / 2 = s) (et : x2 - x2 / 2 * 2 = t) (ek : 5 * s + t = nI k)
    (h0 : a2 k = 1000 → ∀ P : Int32 → Prop, P 0 → wpX_splits P (2, sc, lc, cc, cu, st, ic, a1, a2, a3, a4, a5, a6, a7, a8, a9, a10) s t 0 L) (h1 : a2 k = 1000 → ∀ P : Int32 → Prop, P 0 → wpX_splits P (2, sc, lc, cc, cu, st, ic, a1, a2, a3, a4, a5, a6, a7, a8, a9, a10) s t 1 L)
    (H : wX_levelPairs_33 post J L 2 sc lc cc cu st ic m (x2 + 1) a1 a2 a3 a4 a5 a6 a7 a8 a9 a10) : wX_levelPairs_33 post J L 2 sc lc cc cu st ic (m + 1) x2 a1 a2 a3 a4 a5 a6 a7 a8 a9 a10 := by
  refine br_f hlt ⟨by decide, nm_r es ⟨by decide, nm_r et ⟨?_, ?_⟩⟩⟩
  · rw [ek]
    exact vp_in_nI hk (by omega)
  · rw [ek, nI_clamp (by omega)]
    exact br_c (fun z => h0 z _ (br_t rfl (h1 z _ (br_t rfl (nm_e H))))) (fun _ => nm_e H)
/-- a pair that is split by input 1 -/
theorem fz_put {post : St2 → Prop} {J : fz_J} {L x2 s t : Int32} {m : Nat} (k : Nat) (hk : k < 25) (hlt : ¬ (2 : Int32) * 2 ≤ x2) (es : x2 / 2 = s) (et : x2 - x2 / 2 * 2 = t) (ek : 5 * s + t = nI k)
    (hf : a2 k = 1000) (h0 : ∀ P : Int32 → Prop, P 0 → wpX_splits P (2, sc, lc, cc, cu, st, ic, a1, a2, a3, a4, a5, a6, a7, a8, a9, a10) s t 0 L) (h1 : ∀ P : Int32 → Prop, P 1 → wpX_splits P (2, sc, lc, cc, cu, st, ic, a1, a2, a3, a4, a5, a6, a7, a8, a9, a10) s t 1 L)
    (H : wX_levelPairs_33 post J L 2 sc lc cc cu st ic m (x2 + 1) a1 (upd a2 k L) a3 a4 a5 a6 a7 a8 a9 a10) : wX_levelPairs_33 post J L 2 sc lc cc cu st ic (m + 1) x2 a1 a2 a3 a4 a5 a6 a7 a8 a9 a10 := by
  have e2 : (5 * s + t).toNatClampNeg = k := by rw [ek, nI_clamp (by omega)]
  have hin : vp_in (5 * s + t) 25 := by rw [ek]; exact vp_in_nI hk (by omega)
  refine br_f hlt ⟨by decide, nm_r es ⟨by decide, nm_r et ⟨hin, ?_⟩⟩⟩
  refine br_t (by rw [e2]; exact hf) (h0 _ (br_t rfl (h1 _ (br_f (by decide) ⟨hin, ?_⟩))))
  rw [e2]
  exact nm_e (nm_e H)
/-- a round in which nothing changes -/
theorem fz_none {post : St2 → Prop} {J : fz_J} {L : Int32}
    (h : ∀ k s t : Int32, (k = 0 ∧ s = 0 ∧ t = 0) ∨ (k = 1 ∧ s = 0 ∧ t = 1) ∨ (k = 5 ∧ s = 1 ∧ t = 0) ∨ (k = 6 ∧ s = 1 ∧ t = 1) → a2 k.toNatClampNeg = 1000 → ∀ i : Int32, (i = 0 ∨ i = 1) → ∀ P : Int32 → Prop, P 0 → wpX_splits P (2, sc, lc, cc, cu, st, ic, a1, a2, a3, a4, a5, a6, a7, a8, a9, a10) s t i L)
    (H : J (L + 1) a1 a2 a3 a4 a5 a6 a7 a8 a9 a10) : ∃ m, wX_levelPairs_33 post J L 2 sc lc cc cu st ic m 0 a1 a2 a3 a4 a5 a6 a7 a8 a9 a10 := by
  refine ⟨5, fz_skip 0 (by decide) (by decide) (s := 0) (t := 0) (by decide) (by decide) (by decide) (fun z => h 0 0 0 (by decide) z 0 (by decide)) (fun z => h 0 0 0 (by decide) z 1 (by decide)) ?_⟩
  refine fz_skip 1 (by decide) (by decide) (s := 0) (t := 1) (by decide) (by decide) (by decide) (fun z => h 1 0 1 (by decide) z 0 (by decide)) (fun z => h 1 0 1 (by decide) z 1 (by decide)) ?_
  refine fz_skip 5 (by decide) (by decide) (s := 1) (t := 0) (by decide) (by decide) (by decide) (fun z => h 5 1 0 (by decide) z 0 (by decide)) (fun z => h 5 1 0 (by decide) z 1 (by decide)) ?_
  refine fz_skip 6 (by decide) (by decide) (s := 1) (t := 1) (by decide) (by decide) (by decide) (fun z => h 6 1 1 (by decide) z 0 (by decide)) (fun z => h 6 1 1 (by decide) z 1 (by decide)) ?_
  exact br_t (by decide) (nm_e H)
/-- split, by the outputs of the entries for input 1 -/
def fz_S (E F : Int32) : Prop := ¬ (fz_o E = -1 ∨ fz_o F = -1 ∨ fz_o E = fz_o F)
theorem fz_S0 {E : Int32} : fz_o E = -1 ∨ fz_o E = -1 ∨ fz_o E = fz_o E := Or.inr (Or.inr rfl)
theorem fz_Sy {x y : Int32} (h : x = -1 ∨ y = -1 ∨ x = y) : y = -1 ∨ x = -1 ∨ y = x := h.elim (fun z => Or.inr (Or.inl z)) (fun z => z.elim Or.inl (fun z => Or.inr (Or.inr z.symm)))
/-- the first round, nothing split -/
theorem fz_r1n {post : St2 → Prop} {J : fz_J} {E F : Int32} (hA : fz_A a1 E F) (hS : ¬ fz_S E F) (H : J (1 + 1) a1 a2 a3 a4 a5 a6 a7 a8 a9 a10) : ∃ m, wX_levelPairs_33 post J 1 2 sc lc cc cu st ic m 0 a1 a2 a3 a4 a5 a6 a7 a8 a9 a10 := by
  obtain ⟨e0, e1, e2, e3⟩ := hA
  have hS' : fz_o E = -1 ∨ fz_o F = -1 ∨ fz_o E = fz_o F := Classical.not_not.mp hS
  refine fz_none ?_ H
  intro k s t hk hf i hi P h0
  rcases hk with ⟨rfl, rfl, rfl⟩ | ⟨rfl, rfl, rfl⟩ | ⟨rfl, rfl, rfl⟩ | ⟨rfl, rfl, rfl⟩ <;> rcases hi with rfl | rfl
  · exact fz_sp0 0 0 (by decide) (by decide) (by decide) (by decide) e0 h0
  · exact fz_sp1 1 1 (by decide) (by decide) (by decide) (by decide) (by rw [e1]) (by rw [e1]) (fun _ => h0) (fun z => absurd fz_S0 z)
  · exact fz_sp0 0 2 (by decide) (by decide) (by decide) (by decide) e0 h0
  · exact fz_sp1 1 3 (by decide) (by decide) (by decide) (by decide) (by rw [e1]) (by rw [e3]) (fun _ => h0) (fun z => absurd hS' z)
  · exact fz_sp0 2 0 (by decide) (by decide) (by decide) (by decide) e2 h0
  · exact fz_sp1 3 1 (by decide) (by decide) (by decide) (by decide) (by rw [e3]) (by rw [e1]) (fun _ => h0) (fun z => absurd (fz_Sy hS') z)
  · exact fz_sp0 2 2 (by decide) (by decide) (by decide) (by decide) e2 h0
  · exact fz_sp1 3 3 (by decide) (by decide) (by decide) (by decide) (by rw [e3]) (by rw [e3]) (fun _ => h0) (fun z => absurd fz_S0 z)
/-- the first round, the pair split -/
theorem fz_r1s {post : St2 → Prop} {J : fz_J} {E F : Int32} (hA : fz_A a1 E F) (hS : fz_S E F) (l1 : a2 1 = 1000) (l5 : a2 5 = 1000) (H : J (1 + 1) a1 (upd (upd a2 1 1) 5 1) a3 a4 a5 a6 a7 a8 a9 a10) : ∃ m, wX_levelPairs_33 post J 1 2 sc lc cc cu st ic m 0 a1 a2 a3 a4 a5 a6 a7 a8 a9 a10 := by
  obtain ⟨e0, e1, e2, e3⟩ := hA
  refine ⟨5, fz_skip 0 (by decide) (by decide) (s := 0) (t := 0) (by decide) (by decide) (by decide)
    (fun _ P h0 => fz_sp0 0 0 (by decide) (by decide) (by decide) (by decide) e0 h0)
    (fun _ P h0 => fz_sp1 1 1 (by decide) (by decide) (by decide) (by decide) (by rw [e1]) (by rw [e1]) (fun _ => h0) (fun z => absurd fz_S0 z)) ?_⟩
  refine fz_put 1 (by decide) (by decide) (s := 0) (t := 1) (by decide) (by decide) (by decide) l1
    (fun P h0 => fz_sp0 0 2 (by decide) (by decide) (by decide) (by decide) e0 h0)
    (fun P h1 => fz_sp1 1 3 (by decide) (by decide) (by decide) (by decide) (by rw [e1]) (by rw [e3]) (fun z => absurd z hS) (fun _ => h1)) ?_
  refine fz_put 5 (by decide) (by decide) (s := 1) (t := 0) (by decide) (by decide) (by decide) (by rw [pk_un (by decide)]; exact l5)
    (fun P h0 => fz_sp0 2 0 (by decide) (by decide) (by decide) (by decide) e2 h0)
    (fun P h1 => fz_sp1 3 1 (by decide) (by decide) (by decide) (by decide) (by rw [e3]) (by rw [e1]) (fun z => absurd (fz_Sy z) hS) (fun _ => h1)) ?_
  refine fz_skip 6 (by decide) (by decide) (s := 1) (t := 1) (by decide) (by decide) (by decide)
    (fun _ P h0 => fz_sp0 2 2 (by decide) (by decide) (by decide) (by decide) e2 h0)
    (fun _ P h0 => fz_sp1 3 3 (by decide) (by decide) (by decide) (by decide) (by rw [e3]) (by rw [e3]) (fun _ => h0) (fun z => absurd fz_S0 z)) ?_
  exact br_t (by decide) (nm_e H)
/-- a later round -/
theorem fz_r2 {post : St2 → Prop} {J : fz_J} {E F L lv : Int32} (hA : fz_A a1 E F) (tE : fz_T (fz_p E)) (tF : fz_T (fz_p F)) (h1 : ¬ L = 1) (hL : ¬ (1000 : Int32) = L - 1)
    (l0 : a2 0 = 1000) (l6 : a2 6 = 1000) (l1 : a2 1 = lv) (l5 : a2 5 = lv) (H : J (L + 1) a1 a2 a3 a4 a5 a6 a7 a8 a9 a10) : ∃ m, wX_levelPairs_33 post J L 2 sc lc cc cu st ic m 0 a1 a2 a3 a4 a5 a6 a7 a8 a9 a10 := by
  obtain ⟨e0, e1, e2, e3⟩ := hA
  refine fz_none ?_ H
  intro k s t hk hf i hi P h0
  rcases hk with ⟨rfl, rfl, rfl⟩ | ⟨rfl, rfl, rfl⟩ | ⟨rfl, rfl, rfl⟩ | ⟨rfl, rfl, rfl⟩ <;> rcases hi with rfl | rfl
  · exact fz_sp0 0 0 (by decide) (by decide) (by decide) (by decide) e0 h0
  · exact fz_sp2 1 1 (by decide) (by decide) (by decide) (by decide) (by rw [e1]) (by rw [e1]) tE tE h1 hL l0 l6 (Or.inl rfl) h0
  · exact fz_sp0 0 2 (by decide) (by decide) (by decide) (by decide) e0 h0
  · have hv : a2 1 = 1000 := hf
    exact fz_sp2 1 3 (by decide) (by decide) (by decide) (by decide) (by rw [e1]) (by rw [e3]) tE tF h1 hL l0 l6 (Or.inr ⟨hv, by rw [l5, ← l1]; exact hv⟩) h0
  · exact fz_sp0 2 0 (by decide) (by decide) (by decide) (by decide) e2 h0
  · have hv : a2 5 = 1000 := hf
    exact fz_sp2 3 1 (by decide) (by decide) (by decide) (by decide) (by rw [e3]) (by rw [e1]) tF tE h1 hL l0 l6 (Or.inr ⟨by rw [l1, ← l5]; exact hv, hv⟩) h0
  · exact fz_sp0 2 2 (by decide) (by decide) (by decide) (by decide) e2 h0
  · exact fz_sp2 3 3 (by decide) (by decide) (by decide) (by decide) (by rw [e3]) (by rw [e3]) tF tF h1 hL l0 l6 (Or.inl rfl) h0
/-- the rounds -/
theorem fz_rounds {post : St2 → Prop} {E F lv : Int32} (hA : fz_A a1 E F) (tE : fz_T (fz_p E)) (tF : fz_T (fz_p F)) (hv : (fz_S E F ∧ lv = 1) ∨ (¬ fz_S E F ∧ lv = 1000))
    (l : a2 0 = 1000 ∧ a2 6 = 1000 ∧ a2 1 = 1000 ∧ a2 5 = 1000) (H : ∀ b, b 0 = 1000 → b 6 = 1000 → b 1 = lv → b 5 = lv → post (2, sc, lc, cc, cu, st, ic, a1, b, a3, a4, a5, a6, a7, a8, a9, a10)) : ∃ m, wX_levelPairs_25 post 2 sc lc cc cu st ic m 1 a1 a2 a3 a4 a5 a6 a7 a8 a9 a10 :=
  pk_loop (fun m i s => wX_levelPairs_25 post 2 sc lc cc cu st ic m (nI i) a1 s a3 a4 a5 a6 a7 a8 a9 a10)
    (fun i s => 1 ≤ i ∧ s 0 = 1000 ∧ s 6 = 1000 ∧ (i = 1 → s 1 = 1000 ∧ s 5 = 1000) ∧ (2 ≤ i → s 1 = lv ∧ s 5 = lv)) 26 1 a2 (by omega)
    ⟨by omega, l.1, l.2.1, fun _ => l.2.2, fun z => absurd z (by omega)⟩
    (fun m s h => pk_lt 25 26 (fun _ => H s h.2.1 h.2.2.1 (h.2.2.2.2 (by omega)).1 (h.2.2.2.2 (by omega)).2) (fun z => absurd z (by omega)))
    (fun m i s hi h hw => pk_lt 25 i (fun z => absurd z (by omega)) (fun z => by
      obtain ⟨i1, s0, s6, s1, s2⟩ := h
      by_cases h2 : 2 ≤ i
      · refine fz_r2 hA tE tF (fz_L1 i hi h2) (fz_L2 i hi) s0 s6 (s2 h2).1 (s2 h2).2 ?_
        rw [nI_1]
        exact hw s ⟨by omega, s0, s6, fun z => absurd z (by omega), fun _ => s2 (by omega)⟩
      · have hi1 : i = 1 := by omega
        subst hi1
        rcases hv with ⟨hS, rfl⟩ | ⟨hS, rfl⟩
        · exact fz_r1s hA hS (s1 rfl).1 (s1 rfl).2 (hw _ ⟨by omega, s0, s6, fun z => absurd z (by omega), fun _ => ⟨rfl, rfl⟩⟩)
        · exact fz_r1n hA hS (hw _ ⟨by omega, s0, s6, fun z => absurd z (by omega), fun _ => s1 rfl⟩)))
theorem fz_fill {s : Nat → Int32} {i k : Nat} (hk : k = i) (h : ∀ j, j < i → s j = 1000) : ∀ j, j < i + 1 → upd s k 1000 j = 1000 := by
  intro j hj
  rw [hk]
  by_cases e : j = i
  · rw [e, pk_us]
  · rw [pk_un e]
    exact h j (by omega)
theorem fz_levelPairs {post : St2 → Prop} {E F lv : Int32} (hA : fz_A a1 E F) (tE : fz_T (fz_p E)) (tF : fz_T (fz_p F)) (hv : (fz_S E F ∧ lv = 1) ∨ (¬ fz_S E F ∧ lv = 1000))
    (H : ∀ b, b 0 = 1000 → b 6 = 1000 → b 1 = lv → b 5 = lv → post (2, sc, lc, cc, cu, st, ic, a1, b, a3, a4, a5, a6, a7, a8, a9, a10)) : wpX_levelPairs post (2, sc, lc, cc, cu, st, ic, a1, a2, a3, a4, a5, a6, a7, a8, a9, a10) :=
  pk_loop (fun m i s => wX_levelPairs_2 post 2 sc lc cc cu st ic m (nI i) a1 s a3 a4 a5 a6 a7 a8 a9 a10) (fun i s => ∀ j, j < i → s j = 1000) 25 0 a2 (by omega) (fun j hj => absurd hj (by omega))
    (fun m s h => pk_le 25 25 (fun _ => fz_rounds hA tE tF hv ⟨h 0 (by omega), h 6 (by omega), h 1 (by omega), h 5 (by omega)⟩ H) (fun z => absurd z (by omega)))
    (fun m i s hi h hw => pk_le 25 i (fun z => absurd z (by omega)) (fun _ => ⟨pk_in i 25 hi, nm_e (nm_r (nI_1 i) (hw _ (fz_fill (nI_clamp (by omega)) h)))⟩))
end
end
section
theorem fz_c1 {x y c d : Int32} (hx : x = c) (hy : y = d) (h : c &&& (d ^^^ (-1)) = 0) : x &&& (y ^^^ (-1)) = 0 := by
  rw [hx, hy]
  exact h
theorem fz_c0 {x y c d : Int32} (hx : x = c) (hy : y = d) (h : ¬ c &&& (d ^^^ (-1)) = 0) : ¬ x &&& (y ^^^ (-1)) = 0 := by
  rw [hx, hy]
  exact h
section
variable {sc lc cc cu st ic : Int32} {a1 a2 a3 a4 a5 a6 a7 a8 a9 a10 : Nat → Int32}
/-- one pair looked at -/
theorem fz_ht {P : Int32 → Prop} {set x2 s t : Int32} {m : Nat} (k : Nat) (hk : k < 25) (hlt : ¬ (2 : Int32) * 2 ≤ x2) (es : x2 / 2 = s) (et : x2 - x2 / 2 * 2 = t) (ek : 5 * s + t = nI k)
    (h0 : (((set >>> (s &&& 31)) &&& 1) = 1 ∧ ((set >>> (t &&& 31)) &&& 1) = 1) → ¬ a2 k = 1000 → P 0)
    (H : ((((set >>> (s &&& 31)) &&& 1) = 1 ∧ ((set >>> (t &&& 31)) &&& 1) = 1) → a2 k = 1000) → wX_holdsTogether_2 P set 2 sc lc cc cu st ic a1 a2 a3 a4 a5 a6 a7 a8 a9 a10 m (x2 + 1)) :
    wX_holdsTogether_2 P set 2 sc lc cc cu st ic a1 a2 a3 a4 a5 a6 a7 a8 a9 a10 (m + 1) x2 := by
  have e2 : (5 * s + t).toNatClampNeg = k := by rw [ek, nI_clamp (by omega)]
  have hin : vp_in (5 * s + t) 25 := by rw [ek]; exact vp_in_nI hk (by omega)
  refine br_f hlt ⟨by decide, nm_r es ⟨by decide, nm_r et (br_c (fun b => br_c (fun c => ⟨hin, ?_⟩) (fun c => nm_e (H (fun z => absurd z.2 c)))) (fun b => nm_e (H (fun z => absurd z.1 b))))⟩⟩
  rw [e2]
  exact br_c (fun z => nm_e (H (fun _ => z))) (fun z => h0 ⟨b, c⟩ z)
theorem fz_h1 {P : Int32 → Prop} (l0 : a2 0 = 1000) (h : P 1) : wpX_holdsTogether P (2, sc, lc, cc, cu, st, ic, a1, a2, a3, a4, a5, a6, a7, a8, a9, a10) 1 :=
  ⟨5, fz_ht 0 (by decide) (by decide) (s := 0) (t := 0) (by decide) (by decide) (by decide) (fun _ z => absurd l0 z) (fun _ =>
    fz_ht 1 (by decide) (by decide) (s := 0) (t := 1) (by decide) (by decide) (by decide) (fun z => absurd z (by decide)) (fun _ =>
    fz_ht 5 (by decide) (by decide) (s := 1) (t := 0) (by decide) (by decide) (by decide) (fun z => absurd z (by decide)) (fun _ =>
    fz_ht 6 (by decide) (by decide) (s := 1) (t := 1) (by decide) (by decide) (by decide) (fun z => absurd z (by decide)) (fun _ => br_t (by decide) h))))⟩
theorem fz_h2 {P : Int32 → Prop} (l6 : a2 6 = 1000) (h : P 1) : wpX_holdsTogether P (2, sc, lc, cc, cu, st, ic, a1, a2, a3, a4, a5, a6, a7, a8, a9, a10) 2 :=
  ⟨5, fz_ht 0 (by decide) (by decide) (s := 0) (t := 0) (by decide) (by decide) (by decide) (fun z => absurd z (by decide)) (fun _ =>
    fz_ht 1 (by decide) (by decide) (s := 0) (t := 1) (by decide) (by decide) (by decide) (fun z => absurd z (by decide)) (fun _ =>
    fz_ht 5 (by decide) (by decide) (s := 1) (t := 0) (by decide) (by decide) (by decide) (fun z => absurd z (by decide)) (fun _ =>
    fz_ht 6 (by decide) (by decide) (s := 1) (t := 1) (by decide) (by decide) (by decide) (fun _ z => absurd l6 z) (fun _ => br_t (by decide) h))))⟩
theorem fz_h3n {P : Int32 → Prop} (l0 : a2 0 = 1000) (l6 : a2 6 = 1000) (l1 : a2 1 = 1000) (l5 : a2 5 = 1000) (h : P 1) : wpX_holdsTogether P (2, sc, lc, cc, cu, st, ic, a1, a2, a3, a4, a5, a6, a7, a8, a9, a10) 3 :=
  ⟨5, fz_ht 0 (by decide) (by decide) (s := 0) (t := 0) (by decide) (by decide) (by decide) (fun _ z => absurd l0 z) (fun _ =>
    fz_ht 1 (by decide) (by decide) (s := 0) (t := 1) (by decide) (by decide) (by decide) (fun _ z => absurd l1 z) (fun _ =>
    fz_ht 5 (by decide) (by decide) (s := 1) (t := 0) (by decide) (by decide) (by decide) (fun _ z => absurd l5 z) (fun _ =>
    fz_ht 6 (by decide) (by decide) (s := 1) (t := 1) (by decide) (by decide) (by decide) (fun _ z => absurd l6 z) (fun _ => br_t (by decide) h))))⟩
theorem fz_h3s {P : Int32 → Prop} (l0 : a2 0 = 1000) (l1 : a2 1 = 1) (h : P 0) : wpX_holdsTogether P (2, sc, lc, cc, cu, st, ic, a1, a2, a3, a4, a5, a6, a7, a8, a9, a10) 3 :=
  ⟨5, fz_ht 0 (by decide) (by decide) (s := 0) (t := 0) (by decide) (by decide) (by decide) (fun _ z => absurd l0 z) (fun _ =>
    fz_ht 1 (by decide) (by decide) (s := 0) (t := 1) (by decide) (by decide) (by decide) (fun _ _ => h) (fun z => absurd (z (by decide)) (by rw [l1]; decide)))⟩
/-- the sets, split -/
theorem fz_setsS {post : St2 → Prop} (l0 : a2 0 = 1000) (l6 : a2 6 = 1000) (l1 : a2 1 = 1)
    (H : ∀ b3 b4, b3 0 = 1 → b3 1 = 2 → b4 1 = 2 → post (2, 2, lc, cc, cu, st, ic, a1, a2, b3, b4, a5, a6, a7, a8, a9, a10)) : wpX_listSets post (2, sc, lc, cc, cu, st, ic, a1, a2, a3, a4, a5, a6, a7, a8, a9, a10) := by
  refine ⟨4, br_f (by decide) (fz_h1 l0 (br_f (by decide) ⟨fz_in (by decide), nm_e (nm_r fz_01 (nm_r fz_12 ?_))⟩))⟩
  refine br_f (by decide) (fz_h2 l6 (br_f (by decide) ⟨fz_in (by decide), nm_e (nm_r fz_12 (nm_r fz_23 ?_))⟩))
  refine br_f (by decide) (fz_h3s l0 l1 (br_t rfl (nm_r fz_34 ?_)))
  refine br_t (by decide) ⟨fz_in (by decide), nm_e (nm_r (show (2 : Int32) - 1 = 1 by decide) ⟨3, ?_⟩)⟩
  refine br_f (by decide) ⟨fz_in (by decide), fz_in (by decide), fz_in (by decide), nm_e (nm_r (show (1 : Int32) + (-1) = 0 by decide) ?_)⟩
  refine br_f (by decide) ⟨fz_in (by decide), fz_in (by decide), fz_in (by decide), nm_e (nm_r (show (0 : Int32) + (-1) = -1 by decide) ?_)⟩
  exact br_t (by decide) (H _ _ rfl rfl (show (0 : Int32) ||| 2 = 2 by decide))
/-- the sets, not split -/
theorem fz_setsN {post : St2 → Prop} (l0 : a2 0 = 1000) (l6 : a2 6 = 1000) (l1 : a2 1 = 1000) (l5 : a2 5 = 1000)
    (H : ∀ b3 b4, b3 0 = 1 → b3 1 = 2 → b3 2 = 3 → post (2, 3, lc, cc, cu, st, ic, a1, a2, b3, b4, a5, a6, a7, a8, a9, a10)) : wpX_listSets post (2, sc, lc, cc, cu, st, ic, a1, a2, a3, a4, a5, a6, a7, a8, a9, a10) := by
  refine ⟨4, br_f (by decide) (fz_h1 l0 (br_f (by decide) ⟨fz_in (by decide), nm_e (nm_r fz_01 (nm_r fz_12 ?_))⟩))⟩
  refine br_f (by decide) (fz_h2 l6 (br_f (by decide) ⟨fz_in (by decide), nm_e (nm_r fz_12 (nm_r fz_23 ?_))⟩))
  refine br_f (by decide) (fz_h3n l0 l6 l1 l5 (br_f (by decide) ⟨fz_in (by decide), nm_e (nm_r fz_23 (nm_r fz_34 ?_))⟩))
  refine br_t (by decide) ⟨fz_in (by decide), nm_e (nm_r (show (3 : Int32) - 1 = 2 by decide) ⟨4, ?_⟩)⟩
  refine br_f (by decide) ⟨fz_in (by decide), fz_in (by decide), fz_in (by decide), nm_e (nm_r (show (2 : Int32) + (-1) = 1 by decide) ?_)⟩
  refine br_f (by decide) ⟨fz_in (by decide), fz_in (by decide), fz_in (by decide), nm_e (nm_r (show (1 : Int32) + (-1) = 0 by decide) ?_)⟩
  refine br_f (by decide) ⟨fz_in (by decide), fz_in (by decide), fz_in (by decide), nm_e (nm_r (show (0 : Int32) + (-1) = -1 by decide) ?_)⟩
  exact br_t (by decide) (H _ _ rfl rfl rfl)
/-- the largest sets, split -/
theorem fz_largS {post : St2 → Prop} (h0 : a3 0 = 1) (h1 : a3 1 = 2) (H : ∀ b5, post (2, 2, 2, cc, cu, st, ic, a1, a2, a3, a4, b5, a6, a7, a8, a9, a10)) : wpX_listLargest post (2, 2, lc, cc, cu, st, ic, a1, a2, a3, a4, a5, a6, a7, a8, a9, a10) := by
  refine ⟨3, br_f (by decide) (nm_r fz_01 ⟨2, ?_⟩)⟩
  refine br_f (by decide) (br_f (by decide) ⟨fz_in (by decide), fz_in (by decide), br_f (fz_c0 h0 h1 (by decide)) (nm_r fz_12 ?_)⟩)
  refine br_t (by decide) (br_f (by decide) ⟨fz_in (by decide), fz_in (by decide), nm_e (nm_r fz_01 (nm_r fz_01 ?_))⟩)
  refine br_f (by decide) (nm_r fz_12 ⟨1, ?_⟩)
  refine br_t (by decide) (br_f (by decide) ⟨fz_in (by decide), fz_in (by decide), nm_e (nm_r fz_12 (nm_r fz_12 ?_))⟩)
  exact br_t (by decide) (H _)
/-- the largest set, not split -/
theorem fz_largN {post : St2 → Prop} (h0 : a3 0 = 1) (h1 : a3 1 = 2) (h2 : a3 2 = 3) (H : ∀ b5, post (2, 3, 1, cc, cu, st, ic, a1, a2, a3, a4, b5, a6, a7, a8, a9, a10)) : wpX_listLargest post (2, 3, lc, cc, cu, st, ic, a1, a2, a3, a4, a5, a6, a7, a8, a9, a10) := by
  refine ⟨4, br_f (by decide) (nm_r fz_01 ⟨3, ?_⟩)⟩
  refine br_f (by decide) (br_f (by decide) ⟨fz_in (by decide), fz_in (by decide), br_f (fz_c0 h0 h1 (by decide)) (nm_r fz_12 ?_)⟩)
  refine br_f (by decide) (br_f (by decide) ⟨fz_in (by decide), fz_in (by decide), br_t (fz_c1 h0 h2 (by decide)) (nm_r fz_23 ?_)⟩)
  refine br_t (by decide) (br_t rfl (nm_r fz_01 ?_))
  refine br_f (by decide) (nm_r fz_12 ⟨2, ?_⟩)
  refine br_f (by decide) (br_f (by decide) ⟨fz_in (by decide), fz_in (by decide), br_t (fz_c1 h1 h2 (by decide)) (nm_r fz_23 ?_)⟩)
  refine br_t (by decide) (br_t rfl (nm_r fz_12 ?_))
  refine br_f (by decide) (nm_r fz_23 ⟨1, ?_⟩)
  refine br_t (by decide) (br_f (by decide) ⟨fz_in (by decide), fz_in (by decide), nm_e (nm_r fz_01 (nm_r fz_23 ?_))⟩)
  exact br_t (by decide) (H _)
end
end
section
/-- what a set may lead to -/
abbrev fz_V (set v : Int32) : Prop := v = 0 ∨ v = 1 ∨ v = 2 ∨ (set = 3 ∧ v = 3)
/-- one state's part of an image -/
abbrev fz_st (set x4 r x3 : Int32) : Int32 := if ((set >>> (x4 &&& 31)) &&& 1) = 1 ∧ ¬ r = -1 then x3 ||| ((1 : Int32) <<< (r &&& 31)) else x3
theorem fz_vfin {set p q : Int32} (hs : set = 1 ∨ set = 2 ∨ set = 3) (tp : fz_T p) (tq : fz_T q) : fz_V set (fz_st set 1 q (fz_st set 0 p 0)) := by
  rcases hs with rfl | rfl | rfl <;> rcases tp with rfl | rfl | rfl <;> rcases tq with rfl | rfl | rfl <;> decide
section
variable {sc lc cc cu st ic : Int32} {a1 a2 a3 a4 a5 a6 a7 a8 a9 a10 : Nat → Int32}
theorem fz_im {P : Int32 → Prop} {set i x3 x4 r : Int32} {m : Nat} (k : Nat) (hk : k < 10) (e : 2 * x4 + i = nI k) (hr : fz_p (a1 k) = r) (hlt : ¬ 2 ≤ x4)
    (h : wX_image_5 P set i 2 sc lc cc cu st ic a1 a2 a3 a4 a5 a6 a7 a8 a9 a10 m (fz_st set x4 r x3) (x4 + 1)) : wX_image_5 P set i 2 sc lc cc cu st ic a1 a2 a3 a4 a5 a6 a7 a8 a9 a10 (m + 1) x3 x4 := by
  refine br_f hlt (fz_next k hk e hr ?_)
  by_cases hb : ((set >>> (x4 &&& 31)) &&& 1) = 1
  · by_cases hm : r = -1
    · rw [fz_st, if_neg (fun z => z.2 hm)] at h
      exact br_t hb (br_t hm (nm_e h))
    · rw [fz_st, if_pos ⟨hb, hm⟩] at h
      exact br_t hb (br_f hm (nm_e (nm_e h)))
  · rw [fz_st, if_neg (fun z => hb z.1)] at h
    exact br_f hb (nm_e h)
theorem fz_image {P : Int32 → Prop} {E F set i : Int32} (hA : fz_A a1 E F) (tE : fz_T (fz_p E)) (tF : fz_T (fz_p F)) (hi : i = 0 ∨ i = 1) (hs : set = 1 ∨ set = 2 ∨ set = 3) (H : ∀ v, fz_V set v → P v) : wpX_image P (2, sc, lc, cc, cu, st, ic, a1, a2, a3, a4, a5, a6, a7, a8, a9, a10) set i := by
  obtain ⟨e0, e1, e2, e3⟩ := hA
  rcases hi with rfl | rfl
  · exact ⟨3, fz_im 0 (by decide) (by decide) (r := -1) (by rw [e0]; decide) (by decide) (fz_im 2 (by decide) (by decide) (r := -1) (by rw [e2]; decide) (by decide) (br_t (by decide) (H _ (fz_vfin hs (Or.inl rfl) (Or.inl rfl)))))⟩
  · exact ⟨3, fz_im 1 (by decide) (by decide) (r := fz_p E) (by rw [e1]) (by decide) (fz_im 3 (by decide) (by decide) (r := fz_p F) (by rw [e3]) (by decide) (br_t (by decide) (H _ (fz_vfin hs tE tF))))⟩
/-- the first set with these, one set -/
theorem fz_fw1 {P : Int32 → Prop} {v : Int32} (h8 : a8 0 = 3) (hv : fz_V 3 v) (h : P 0) : wpX_firstWith P (2, sc, lc, 1, cu, st, ic, a1, a2, a3, a4, a5, a6, a7, a8, a9, a10) v := by
  have c : v &&& (a8 0 ^^^ (-1)) = 0 := by
    rw [h8]
    rcases hv with rfl | rfl | rfl | ⟨_, rfl⟩ <;> decide
  exact ⟨1, br_f (by decide) ⟨fz_in (by decide), br_t c h⟩⟩
/-- the same, two sets -/
theorem fz_fw2 {P : Int32 → Prop} {v : Int32} (h8 : a8 0 = 1) (h9 : a8 1 = 2) (hv : v = 0 ∨ v = 1 ∨ v = 2) (h0 : P 0) (h1 : v = 2 → P 1) : wpX_firstWith P (2, sc, lc, 2, cu, st, ic, a1, a2, a3, a4, a5, a6, a7, a8, a9, a10) v := by
  rcases hv with rfl | rfl | rfl
  · have c : (0 : Int32) &&& (a8 0 ^^^ (-1)) = 0 := by rw [h8]; decide
    exact ⟨1, br_f (by decide) ⟨fz_in (by decide), br_t c h0⟩⟩
  · have c : (1 : Int32) &&& (a8 0 ^^^ (-1)) = 0 := by rw [h8]; decide
    exact ⟨1, br_f (by decide) ⟨fz_in (by decide), br_t c h0⟩⟩
  · have c : ¬ (2 : Int32) &&& (a8 0 ^^^ (-1)) = 0 := by rw [h8]; decide
    have d : (2 : Int32) &&& (a8 1 ^^^ (-1)) = 0 := by rw [h9]; decide
    exact ⟨2, br_f (by decide) ⟨fz_in (by decide), br_f c (nm_r fz_01 (br_f (by decide) ⟨fz_in (by decide), br_t d (h1 rfl)⟩))⟩⟩
/-- the output that a set shares -/
theorem fz_shared {P : Int32 → Prop} {set i : Int32} (k j : Nat) (hk : k < 10) (hj : j < 10) (ek : 2 * 0 + i = nI k) (ej : 2 * 1 + i = nI j) (hs : set = 1 ∨ set = 2 ∨ set = 3)
    (H : ∀ r, ((set = 1 ∨ set = 3) → ¬ fz_o (a1 k) = -1 → r = fz_o (a1 k)) → P r) : wpX_sharedOutput P (2, sc, lc, cc, cu, st, ic, a1, a2, a3, a4, a5, a6, a7, a8, a9, a10) set i := by
  have R : ((set = 1 ∨ set = 3) → fz_o (a1 k) = -1) → wX_sharedOutput_2 P set i 2 sc lc cc cu st ic a1 a2 a3 a4 a5 a6 a7 a8 a9 a10 2 1 := fun hz =>
    br_f (by decide) (br_c (fun _ => fz_output j hj ej rfl (br_c (fun _ => nm_r fz_12 (br_t (by decide) (H _ (fun a b => absurd (hz a) b)))) (fun _ => H _ (fun a b => absurd (hz a) b))))
      (fun _ => nm_r fz_12 (br_t (by decide) (H _ (fun a b => absurd (hz a) b)))))
  refine ⟨3, br_f (by decide) (br_c (fun hb => fz_output k hk ek rfl (br_c (fun hm => nm_r fz_01 (R (fun _ => hm))) (fun _ => H _ (fun _ _ => rfl)))) (fun hb => nm_r fz_01 (R (fun hz => absurd ?_ hb))))⟩
  rcases hz with rfl | rfl <;> decide
/-- one look of isClosed -/
theorem fz_ics {post : Int32 → St2 → Prop} {x1 x2 set i : Int32} {m : Nat} (j : Nat) (hj : j < 5) (ej : x2 >>> ((1 : Int32) &&& 31) = nI j) (e8 : a8 j = set) (ei : x2 &&& 1 = i) (hlt : ¬ 2 * x1 ≤ x2)
    (him : ∀ P : Int32 → Prop, (∀ v, fz_V set v → P v) → wpX_image P (2, sc, lc, cc, cu, st, ic, a1, a2, a3, a4, a5, a6, a7, a8, a9, a10) set i) (hfw : ∀ (P : Int32 → Prop) (v : Int32), fz_V set v → (∀ r, ¬ r = -1 → P r) → wpX_firstWith P (2, sc, lc, cc, cu, st, ic, a1, a2, a3, a4, a5, a6, a7, a8, a9, a10) v)
    (H : wX_isClosed_37 post x1 2 sc lc cc cu st ic a1 a2 a3 a4 a5 a6 a7 a8 a9 a10 m (x2 + 1)) : wX_isClosed_37 post x1 2 sc lc cc cu st ic a1 a2 a3 a4 a5 a6 a7 a8 a9 a10 (m + 1) x2 := by
  refine br_f hlt ⟨?_, ?_⟩
  · rw [ej]
    exact vp_in_nI hj (by omega)
  · rw [ej, nI_clamp (by omega), e8, ei]
    exact him _ (fun v hv => hfw _ v hv (fun r hr => br_f hr (nm_e H)))
theorem fz_icN {post : Int32 → St2 → Prop} {E F : Int32} (hA : fz_A a1 E F) (tE : fz_T (fz_p E)) (tF : fz_T (fz_p F)) (h6 : a6 0 = 2) (h3 : a3 2 = 3)
    (H : ∀ b8, b8 0 = 3 → post 1 (2, sc, lc, 1, cu, st, ic, a1, a2, a3, a4, a5, a6, a7, b8, a9, a10)) : wpX_isClosed post (2, sc, lc, cc, cu, st, ic, a1, a2, a3, a4, a5, a6, a7, a8, a9, a10) 1 := by
  have K : ∀ b8, b8 0 = 3 → ∃ m, wX_isClosed_37 post 1 2 sc lc 1 cu st ic a1 a2 a3 a4 a5 a6 a7 b8 a9 a10 m 0 := fun b8 e8 =>
    ⟨3, fz_ics 0 (by decide) (by decide) e8 (i := 0) (by decide) (by decide) (fun P h => fz_image hA tE tF (Or.inl rfl) (by decide) h) (fun P v hv h => fz_fw1 e8 hv (h 0 (by decide)))
      (fz_ics 0 (by decide) (by decide) e8 (i := 1) (by decide) (by decide) (fun P h => fz_image hA tE tF (Or.inr rfl) (by decide) h) (fun P v hv h => fz_fw1 e8 hv (h 0 (by decide)))
      (br_t (by decide) (H b8 e8)))⟩
  have i6 : vp_in (a6 0) 31 := by rw [h6]; exact fz_in (by decide)
  have e8 : upd a8 0 (a3 (a6 0).toNatClampNeg) 0 = 3 := by
    rw [pk_us, h6]
    exact h3
  exact ⟨2, br_f (by decide) ⟨fz_in (by decide), i6, fz_in (by decide), nm_e (nm_r fz_01 (br_t (by decide) (K _ e8)))⟩⟩
theorem fz_v12 {set v : Int32} (h : ¬ set = 3) (hv : fz_V set v) : v = 0 ∨ v = 1 ∨ v = 2 :=
  hv.elim Or.inl (fun z => z.elim (fun z => Or.inr (Or.inl z)) (fun z => z.elim (fun z => Or.inr (Or.inr z)) (fun z => absurd z.1 h)))
theorem fz_icS {post : Int32 → St2 → Prop} {E F : Int32} (hA : fz_A a1 E F) (tE : fz_T (fz_p E)) (tF : fz_T (fz_p F)) (h60 : a6 0 = 0) (h61 : a6 1 = 1) (h30 : a3 0 = 1) (h31 : a3 1 = 2)
    (H : ∀ b8, b8 0 = 1 → b8 1 = 2 → post 1 (2, sc, lc, 2, cu, st, ic, a1, a2, a3, a4, a5, a6, a7, b8, a9, a10)) : wpX_isClosed post (2, sc, lc, cc, cu, st, ic, a1, a2, a3, a4, a5, a6, a7, a8, a9, a10) 2 := by
  have K : ∀ b8, b8 0 = 1 → b8 1 = 2 → ∃ m, wX_isClosed_37 post 2 2 sc lc 2 cu st ic a1 a2 a3 a4 a5 a6 a7 b8 a9 a10 m 0 := fun b8 e8 e9 =>
    ⟨5, fz_ics 0 (by decide) (by decide) e8 (i := 0) (by decide) (by decide) (fun P h => fz_image hA tE tF (Or.inl rfl) (by decide) h) (fun P v hv h => fz_fw2 e8 e9 (fz_v12 (by decide) hv) (h 0 (by decide)) (fun _ => h 1 (by decide)))
      (fz_ics 0 (by decide) (by decide) e8 (i := 1) (by decide) (by decide) (fun P h => fz_image hA tE tF (Or.inr rfl) (by decide) h) (fun P v hv h => fz_fw2 e8 e9 (fz_v12 (by decide) hv) (h 0 (by decide)) (fun _ => h 1 (by decide)))
      (fz_ics 1 (by decide) (by decide) e9 (i := 0) (by decide) (by decide) (fun P h => fz_image hA tE tF (Or.inl rfl) (by decide) h) (fun P v hv h => fz_fw2 e8 e9 (fz_v12 (by decide) hv) (h 0 (by decide)) (fun _ => h 1 (by decide)))
      (fz_ics 1 (by decide) (by decide) e9 (i := 1) (by decide) (by decide) (fun P h => fz_image hA tE tF (Or.inr rfl) (by decide) h) (fun P v hv h => fz_fw2 e8 e9 (fz_v12 (by decide) hv) (h 0 (by decide)) (fun _ => h 1 (by decide)))
      (br_t (by decide) (H b8 e8 e9)))))⟩
  have i60 : vp_in (a6 0) 31 := by rw [h60]; exact fz_in (by decide)
  have i61 : vp_in (a6 1) 31 := by rw [h61]; exact fz_in (by decide)
  have e8 : upd (upd a8 0 (a3 (a6 0).toNatClampNeg)) 1 (a3 (a6 1).toNatClampNeg) 0 = 1 := by
    rw [pk_un (by decide), pk_us, h60]
    exact h30
  have e9 : upd (upd a8 0 (a3 (a6 0).toNatClampNeg)) 1 (a3 (a6 1).toNatClampNeg) 1 = 2 := by
    rw [pk_us, h61]
    exact h31
  exact ⟨3, br_f (by decide) ⟨fz_in (by decide), i60, fz_in (by decide), nm_e (nm_r fz_01 (br_f (by decide) ⟨fz_in (by decide), i61, fz_in (by decide), nm_e (nm_r fz_12 (br_t (by decide) (K _ e8 e9)))⟩))⟩⟩
end
end
section
section
variable {sc lc cc cu st ic : Int32} {a1 a2 a3 a4 a5 a6 a7 a8 a9 a10 : Nat → Int32}
/-- a cover of one set: the next set doesn't do -/
theorem fz_s1 {post : Int32 → St2 → Prop} {c d v x4 : Int32} {m : Nat} (k : Nat) (hk : k < 31) (h4 : ¬ 500000 ≤ x4) (h6 : a6 0 = c) (hd : c + 1 = d) (ed : d = nI k) (hle : d ≤ sc - 1 + 0) (h3 : a3 k = v) (hv : ¬ (0 : Int32) ||| v = 3)
    (H : ∀ b6 b7, b6 0 = d → wX_findCover_21 post 1 3 m 0 (x4 + 1) 2 sc lc cc cu st ic a1 a2 a3 a4 a5 b6 b7 a8 a9 a10) : wX_findCover_21 post 1 3 (m + 1) 0 x4 2 sc lc cc cu st ic a1 a2 a3 a4 a5 a6 a7 a8 a9 a10 := by
  refine br_f h4 ⟨fz_in (by decide), fz_in (by decide), fun b6 e6 => ?_⟩
  have hb : b6 0 = d := by
    rw [e6]
    show a6 0 + 1 = d
    rw [h6, hd]
  have hl : b6 0 ≤ sc - 1 + 0 := by rw [hb]; exact hle
  have hi : vp_in (b6 0) 31 := by rw [hb, ed]; exact vp_in_nI hk (by omega)
  refine ⟨fz_in (by decide), br_t hl (br_t (by decide) ⟨fz_in (by decide), hi, fz_in (by decide), fun b7 e7 => ?_⟩)⟩
  have h7 : ¬ b7 0 = 3 := by
    rw [e7]
    show ¬ (0 ||| a3 (b6 0).toNatClampNeg) = 3
    rw [hb, ed, nI_clamp (by omega), h3]
    exact hv
  exact br_t (by decide) ⟨fz_in (by decide), br_f h7 (nm_e (H b6 b7 hb))⟩
/-- a cover of one set is found -/
theorem fz_f1 {post : Int32 → St2 → Prop} {c d v x4 : Int32} {m : Nat} (k : Nat) (hk : k < 31) (h4 : ¬ 500000 ≤ x4) (h6 : a6 0 = c) (hd : c + 1 = d) (ed : d = nI k) (hle : d ≤ sc - 1 + 0) (h3 : a3 k = v) (hv : (0 : Int32) ||| v = 3)
    (H : ∀ b6 b7 (P : Int32 → St2 → Prop), b6 0 = d → (∀ u, post 1 u → P 1 u) → wpX_isClosed P (2, sc, lc, cc, cu, st, ic, a1, a2, a3, a4, a5, b6, b7, a8, a9, a10) 1) : wX_findCover_21 post 1 3 (m + 1) 0 x4 2 sc lc cc cu st ic a1 a2 a3 a4 a5 a6 a7 a8 a9 a10 := by
  refine br_f h4 ⟨fz_in (by decide), fz_in (by decide), fun b6 e6 => ?_⟩
  have hb : b6 0 = d := by
    rw [e6]
    show a6 0 + 1 = d
    rw [h6, hd]
  have hl : b6 0 ≤ sc - 1 + 0 := by rw [hb]; exact hle
  have hi : vp_in (b6 0) 31 := by rw [hb, ed]; exact vp_in_nI hk (by omega)
  refine ⟨fz_in (by decide), br_t hl (br_t (by decide) ⟨fz_in (by decide), hi, fz_in (by decide), fun b7 e7 => ?_⟩)⟩
  have h7 : b7 0 = 3 := by
    rw [e7]
    show (0 ||| a3 (b6 0).toNatClampNeg) = 3
    rw [hb, ed, nI_clamp (by omega), h3]
    exact hv
  exact br_t (by decide) ⟨fz_in (by decide), br_t h7 (H b6 b7 _ hb (fun u hu => br_f (by decide) hu))⟩
/-- no more sets: no cover of one set -/
theorem fz_e1 {post : Int32 → St2 → Prop} {c d x4 : Int32} {m : Nat} (h4 : ¬ 500000 ≤ x4) (h6 : a6 0 = c) (hd : c + 1 = d) (hle : ¬ d ≤ sc - 1 + 0)
    (H : ∀ b6, post 0 (2, sc, lc, cc, cu, st, ic, a1, a2, a3, a4, a5, b6, a7, a8, a9, a10)) : wX_findCover_21 post 1 3 (m + 1) 0 x4 2 sc lc cc cu st ic a1 a2 a3 a4 a5 a6 a7 a8 a9 a10 := by
  refine br_f h4 ⟨fz_in (by decide), fz_in (by decide), fun b6 e6 => ?_⟩
  have hl : ¬ b6 0 ≤ sc - 1 + 0 := by
    rw [e6]
    show ¬ a6 0 + 1 ≤ sc - 1 + 0
    rw [h6, hd]
    exact hle
  exact ⟨fz_in (by decide), br_f hl (nm_r (show (0 : Int32) + (-1) = -1 by decide) (br_f (by decide) (H b6)))⟩
theorem fz_full : ((1 : Int32) <<< ((2 : Int32) &&& 31)) - 1 = 3 := by decide
/-- not split: the one set of all states -/
theorem fz_fcN {post : Int32 → St2 → Prop} {E F : Int32} (hA : fz_A a1 E F) (tE : fz_T (fz_p E)) (tF : fz_T (fz_p F)) (h0 : a3 0 = 1) (h1 : a3 1 = 2) (h2 : a3 2 = 3)
    (H : ∀ b6 b7 b8, b8 0 = 3 → post 1 (2, 3, lc, 1, cu, st, ic, a1, a2, a3, a4, a5, b6, b7, b8, a9, a10)) : wpX_findCover post (2, 3, lc, cc, cu, st, ic, a1, a2, a3, a4, a5, a6, a7, a8, a9, a10) 1 :=
  nm_r fz_full (nm_e ⟨3, fz_s1 0 (by decide) (by decide) (c := -1) (d := 0) rfl (by decide) (by decide) (by decide) h0 (by decide) (fun b6 b7 e6 =>
    fz_s1 1 (by decide) (by decide) (d := 1) e6 (by decide) (by decide) (by decide) h1 (by decide) (fun b6 b7 e6 =>
    fz_f1 2 (by decide) (by decide) (d := 2) e6 (by decide) (by decide) (by decide) h2 (by decide) (fun b6 b7 P e6 hP =>
      fz_icN hA tE tF e6 h2 (fun b8 e8 => hP _ (H b6 b7 b8 e8)))))⟩)
/-- split: no one set does -/
theorem fz_fcS1 {post : Int32 → St2 → Prop} (h0 : a3 0 = 1) (h1 : a3 1 = 2) (H : ∀ b6 b7, post 0 (2, 2, lc, cc, cu, st, ic, a1, a2, a3, a4, a5, b6, b7, a8, a9, a10)) : wpX_findCover post (2, 2, lc, cc, cu, st, ic, a1, a2, a3, a4, a5, a6, a7, a8, a9, a10) 1 :=
  nm_r fz_full (nm_e ⟨3, fz_s1 0 (by decide) (by decide) (c := -1) (d := 0) rfl (by decide) (by decide) (by decide) h0 (by decide) (fun b6 b7 e6 =>
    fz_s1 1 (by decide) (by decide) (d := 1) e6 (by decide) (by decide) (by decide) h1 (by decide) (fun b6 b7 e6 =>
    fz_e1 (by decide) (d := 2) e6 (by decide) (by decide) (fun b6 => H b6 b7)))⟩)
/-- split: the two sets of one state each -/
theorem fz_fcS2 {post : Int32 → St2 → Prop} {E F : Int32} (hA : fz_A a1 E F) (tE : fz_T (fz_p E)) (tF : fz_T (fz_p F)) (h0 : a3 0 = 1) (h1 : a3 1 = 2) (k1 : a4 1 = 2)
    (H : ∀ b6 b7 b8, b8 0 = 1 → b8 1 = 2 → post 1 (2, 2, lc, 2, cu, st, ic, a1, a2, a3, a4, a5, b6, b7, b8, a9, a10)) : wpX_findCover post (2, 2, lc, cc, cu, st, ic, a1, a2, a3, a4, a5, a6, a7, a8, a9, a10) 2 := by
  refine nm_r fz_full (nm_e ⟨2, ?_⟩)
  refine br_f (by decide) ⟨fz_in (by decide), fz_in (by decide), fun b6 e6 => ?_⟩
  have hb : b6 0 = 0 := by
    rw [e6]
    exact (show (-1 : Int32) + 1 = 0 by decide)
  have hl : b6 0 ≤ 2 - 2 + 0 := by rw [hb]; decide
  have hi : vp_in (b6 0) 31 := by rw [hb]; exact fz_in (by decide)
  have hj : vp_in (b6 0 + 1) 32 := by rw [hb]; exact fz_in (by decide)
  refine ⟨fz_in (by decide), br_t hl (br_t (by decide) ⟨fz_in (by decide), hi, fz_in (by decide), fun b7 e7 => ?_⟩)⟩
  have h7 : b7 0 = 1 := by
    rw [e7]
    show (0 ||| a3 (b6 0).toNatClampNeg) = 1
    rw [hb]
    show (0 ||| a3 0) = 1
    rw [h0]
    decide
  have hf : b7 0 ||| a4 (b6 0 + 1).toNatClampNeg = 3 := by
    rw [h7, hb]
    show 1 ||| a4 1 = 3
    rw [k1]
    decide
  refine br_f (by decide) ⟨fz_in (by decide), fz_in (by decide), hj, br_t hf (nm_r fz_01 ⟨fz_in (by decide), fz_in (by decide), fun c6 f6 => nm_r fz_01 ?_⟩)⟩
  have g0 : c6 0 = 0 := by
    rw [f6]
    exact hb
  have g1 : c6 1 = 0 := by
    rw [f6]
    exact hb
  refine br_f (by decide) ⟨fz_in (by decide), fz_in (by decide), fun d6 e6 => ?_⟩
  have d0 : d6 0 = 0 := by
    rw [e6]
    exact g0
  have d1 : d6 1 = 1 := by
    rw [e6]
    show c6 1 + 1 = 1
    rw [g1]
    decide
  have hl : d6 1 ≤ 2 - 2 + 1 := by rw [d1]; decide
  have hi : vp_in (d6 1) 31 := by rw [d1]; exact fz_in (by decide)
  refine ⟨fz_in (by decide), br_t hl (br_f (by decide) ⟨fz_in (by decide), fz_in (by decide), hi, fz_in (by decide), fun d7 e7 => ?_⟩)⟩
  have g7 : d7 1 = 3 := by
    rw [e7]
    show (b7 0 ||| a3 (d6 1).toNatClampNeg) = 3
    rw [h7, d1]
    show 1 ||| a3 1 = 3
    rw [h1]
    decide
  exact br_t (by decide) ⟨fz_in (by decide), br_t g7 (fz_icS hA tE tF d0 d1 h0 h1 (fun b8 e8 e9 => br_f (by decide) (H d6 d7 b8 e8 e9)))⟩
/-- one step of buildClasses -/
theorem fz_bc {post : St2 → Prop} {x1 set i : Int32} {m : Nat} {Q : Int32 → Prop} (c j : Nat) (hc : c < 10) (ec : x1 = nI c) (hj : j < 5) (ej : x1 >>> ((1 : Int32) &&& 31) = nI j) (e8 : a8 j = set) (ei : x1 &&& 1 = i) (hlt : ¬ 2 * cc ≤ x1)
    (him : ∀ P : Int32 → Prop, (∀ v, fz_V set v → P v) → wpX_image P (2, sc, lc, cc, cu, st, ic, a1, a2, a3, a4, a5, a6, a7, a8, a9, a10) set i) (hfw : ∀ (P : Int32 → Prop) (v : Int32), fz_V set v → (∀ r, P r) → wpX_firstWith P (2, sc, lc, cc, cu, st, ic, a1, a2, a3, a4, a5, a6, a7, a8, a9, a10) v)
    (hsh : ∀ (P : Int32 → Prop) (b9 : Nat → Int32), (∀ r, Q r → P r) → wpX_sharedOutput P (2, sc, lc, cc, cu, st, ic, a1, a2, a3, a4, a5, a6, a7, a8, b9, a10) set i)
    (H : ∀ b9 r, Q r → wX_buildClasses_2 post 2 sc lc cc cu st ic m (x1 + 1) a1 a2 a3 a4 a5 a6 a7 a8 b9 (upd a10 c r)) : wX_buildClasses_2 post 2 sc lc cc cu st ic (m + 1) x1 a1 a2 a3 a4 a5 a6 a7 a8 a9 a10 := by
  have hx : vp_in x1 10 := by rw [ec]; exact vp_in_nI hc (by omega)
  have hs : vp_in (x1 >>> ((1 : Int32) &&& 31)) 5 := by rw [ej]; exact vp_in_nI hj (by omega)
  have ex : x1.toNatClampNeg = c := by rw [ec, nI_clamp (by omega)]
  refine br_f hlt ⟨hs, ?_⟩
  rw [ej, nI_clamp (by omega), e8, ei, ex]
  rw [ej] at hs
  exact him _ (fun v hv => hfw _ v hv (fun r => ⟨hx, nm_e ⟨hs, hsh _ _ (fun r' hr => ⟨hx, nm_e (nm_e (H _ r' hr))⟩)⟩⟩))
theorem fz_bcN {post : St2 → Prop} {E F : Int32} (hA : fz_A a1 E F) (tE : fz_T (fz_p E)) (tF : fz_T (fz_p F)) (e8 : a8 0 = 3)
    (H : ∀ b9 b10, (¬ fz_o E = -1 → b10 1 = fz_o E) → post (2, sc, lc, 1, cu, st, ic, a1, a2, a3, a4, a5, a6, a7, a8, b9, b10)) : wpX_buildClasses post (2, sc, lc, 1, cu, st, ic, a1, a2, a3, a4, a5, a6, a7, a8, a9, a10) :=
  ⟨3, fz_bc (Q := fun _ => True) 0 0 (by decide) (by decide) (by decide) (by decide) e8 (i := 0) (by decide) (by decide) (fun P h => fz_image hA tE tF (Or.inl rfl) (by decide) h) (fun P v hv h => fz_fw1 e8 hv (h 0))
      (fun P b9 h => fz_shared 0 2 (by decide) (by decide) (by decide) (by decide) (by decide) (fun r _ => h r trivial)) (fun b9 r _ =>
    fz_bc (Q := fun r => ¬ fz_o E = -1 → r = fz_o E) 1 0 (by decide) (by decide) (by decide) (by decide) e8 (i := 1) (by decide) (by decide) (fun P h => fz_image hA tE tF (Or.inr rfl) (by decide) h) (fun P v hv h => fz_fw1 e8 hv (h 0))
      (fun P b9 h => fz_shared 1 3 (by decide) (by decide) (by decide) (by decide) (by decide) (fun r hr => h r (by rw [hA.2.1] at hr; exact hr (by decide)))) (fun b9 r hr =>
    br_t (by decide) (H _ _ hr)))⟩
theorem fz_bcS {post : St2 → Prop} {E F : Int32} (hA : fz_A a1 E F) (tE : fz_T (fz_p E)) (tF : fz_T (fz_p F)) (e8 : a8 0 = 1) (e9 : a8 1 = 2)
    (H : ∀ b9 b10, (¬ fz_o E = -1 → b10 1 = fz_o E) → post (2, sc, lc, 2, cu, st, ic, a1, a2, a3, a4, a5, a6, a7, a8, b9, b10)) : wpX_buildClasses post (2, sc, lc, 2, cu, st, ic, a1, a2, a3, a4, a5, a6, a7, a8, a9, a10) :=
  ⟨5, fz_bc (Q := fun _ => True) 0 0 (by decide) (by decide) (by decide) (by decide) e8 (i := 0) (by decide) (by decide) (fun P h => fz_image hA tE tF (Or.inl rfl) (by decide) h) (fun P v hv h => fz_fw2 e8 e9 (fz_v12 (by decide) hv) (h 0) (fun _ => h 1))
      (fun P b9 h => fz_shared 0 2 (by decide) (by decide) (by decide) (by decide) (by decide) (fun r _ => h r trivial)) (fun b9 r _ =>
    fz_bc (Q := fun r => ¬ fz_o E = -1 → r = fz_o E) 1 0 (by decide) (by decide) (by decide) (by decide) e8 (i := 1) (by decide) (by decide) (fun P h => fz_image hA tE tF (Or.inr rfl) (by decide) h) (fun P v hv h => fz_fw2 e8 e9 (fz_v12 (by decide) hv) (h 0) (fun _ => h 1))
      (fun P b9 h => fz_shared 1 3 (by decide) (by decide) (by decide) (by decide) (by decide) (fun r hr => h r (by rw [hA.2.1] at hr; exact hr (by decide)))) (fun b9 r hr =>
    fz_bc (Q := fun _ => True) 2 1 (by decide) (by decide) (by decide) (by decide) e9 (i := 0) (by decide) (by decide) (fun P h => fz_image hA tE tF (Or.inl rfl) (by decide) h) (fun P v hv h => fz_fw2 e8 e9 (fz_v12 (by decide) hv) (h 0) (fun _ => h 1))
      (fun P b9 h => fz_shared 0 2 (by decide) (by decide) (by decide) (by decide) (by decide) (fun r _ => h r trivial)) (fun b9 r2 _ =>
    fz_bc (Q := fun _ => True) 3 1 (by decide) (by decide) (by decide) (by decide) e9 (i := 1) (by decide) (by decide) (fun P h => fz_image hA tE tF (Or.inr rfl) (by decide) h) (fun P v hv h => fz_fw2 e8 e9 (fz_v12 (by decide) hv) (h 0) (fun _ => h 1))
      (fun P b9 h => fz_shared 1 3 (by decide) (by decide) (by decide) (by decide) (by decide) (fun r _ => h r trivial)) (fun b9 r3 _ =>
    br_t (by decide) (H _ _ (fun z => by rw [pk_un (by decide), pk_un (by decide), pk_us]; exact hr z))))))⟩
/-- refresh, split -/
theorem fz_refS {post : St2 → Prop} {E F : Int32} (hA : fz_A a1 E F) (tE : fz_T (fz_p E)) (tF : fz_T (fz_p F)) (hS : fz_S E F)
    (H : ∀ b2 b3 b4 b5 b6 b7 b8 b9 b10, b2 1 = 1 → b2 5 = 1 → b8 0 = 1 → (¬ fz_o E = -1 → b10 1 = fz_o E) → post (2, 2, 2, 2, 1, st, 0, a1, b2, b3, b4, b5, b6, b7, b8, b9, b10)) : wpX_refresh post (2, sc, lc, cc, 0, st, ic, a1, a2, a3, a4, a5, a6, a7, a8, a9, a10) :=
  br_t rfl (fz_levelPairs hA tE tF (Or.inl ⟨hS, rfl⟩) (fun b2 l0 l6 l1 l5 => fz_setsS l0 l6 l1 (fun b3 b4 h0 h1 k1 => fz_largS h0 h1 (fun b5 => ⟨2, br_f (by decide) (fz_fcS1 h0 h1 (fun b6 b7 => br_t rfl (nm_r fz_12
    (br_f (by decide) (fz_fcS2 hA tE tF h0 h1 k1 (fun b6 b7 b8 e8 e9 => br_f (by decide) (fz_bcS hA tE tF e8 e9 (fun b9 b10 h10 => fz_fw2 e8 e9 (Or.inr (Or.inl rfl)) (H b2 b3 b4 b5 b6 b7 b8 b9 b10 l1 l5 e8 h10) (fun z => absurd z (by decide)))))))))) ⟩))))
/-- refresh, not split -/
theorem fz_refN {post : St2 → Prop} {E F : Int32} (hA : fz_A a1 E F) (tE : fz_T (fz_p E)) (tF : fz_T (fz_p F)) (hS : ¬ fz_S E F)
    (H : ∀ b2 b3 b4 b5 b6 b7 b8 b9 b10, b2 1 = 1000 → b2 5 = 1000 → b8 0 = 3 → (¬ fz_o E = -1 → b10 1 = fz_o E) → post (2, 3, 1, 1, 1, st, 0, a1, b2, b3, b4, b5, b6, b7, b8, b9, b10)) : wpX_refresh post (2, sc, lc, cc, 0, st, ic, a1, a2, a3, a4, a5, a6, a7, a8, a9, a10) :=
  br_t rfl (fz_levelPairs hA tE tF (Or.inr ⟨hS, rfl⟩) (fun b2 l0 l6 l1 l5 => fz_setsN l0 l6 l1 l5 (fun b3 b4 h0 h1 h2 => fz_largN h0 h1 h2 (fun b5 => ⟨1, br_f (by decide) (fz_fcN hA tE tF h0 h1 h2 (fun b6 b7 b8 e8 =>
    br_f (by decide) (fz_bcN hA tE tF e8 (fun b9 b10 h10 => fz_fw1 e8 (by decide) (H b2 b3 b4 b5 b6 b7 b8 b9 b10 l1 l5 e8 h10)))))⟩))))
end
end
section
/-- an entry that set has taken, or none: below 9 -/
def fz_E (E : Int32) : Prop := (E / 3 = 0 ∨ E / 3 = 1 ∨ E / 3 = 2) ∧ (E - E / 3 * 3 = 0 ∨ E - E / 3 * 3 = 1 ∨ E - E / 3 * 3 = 2)
theorem fz_E9 : ∀ j, j < 9 → ((nI j / 3 = 0 ∨ nI j / 3 = 1 ∨ nI j / 3 = 2) ∧ (nI j - nI j / 3 * 3 = 0 ∨ nI j - nI j / 3 * 3 = 1 ∨ nI j - nI j / 3 * 3 = 2)) := by decide +kernel
theorem fz_Eof {x : Int32} (h0 : ¬ x < 0) (h9 : ¬ 9 ≤ x) : fz_E x := by
  rcases pk_ix x (n := 9) (by decide) with z | z | ⟨j, hj, rfl⟩
  · exact absurd z h0
  · exact absurd z h9
  · exact fz_E9 j hj
theorem fz_E0 : fz_E 0 := by
  have h := fz_E9 0 (by decide)
  rwa [nI_0] at h
theorem fz_Ep {E : Int32} (h : fz_E E) : fz_T (fz_p E) := by
  unfold fz_p
  rcases h.1 with e | e | e
  · rw [e]; exact Or.inl (by decide)
  · rw [e]; exact Or.inr (Or.inl (by decide))
  · rw [e]; exact Or.inr (Or.inr (by decide))
theorem fz_Ep1 {E : Int32} (h : fz_E E) : fz_p E = -1 ↔ E / 3 = 0 := by
  unfold fz_p
  rcases h.1 with e | e | e <;> rw [e] <;> decide
theorem fz_Eo {E : Int32} (h : fz_E E) : E - E / 3 * 3 ≤ 0 ↔ fz_o E = -1 := by
  unfold fz_o
  rcases h.2 with e | e | e <;> rw [e] <;> decide
theorem fz_Eo0 {E : Int32} (h : fz_E E) : E - E / 3 * 3 = 0 ↔ fz_o E = -1 := by
  unfold fz_o
  rcases h.2 with e | e | e <;> rw [e] <;> decide
theorem fz_Eoo {E F : Int32} (h : fz_E E) (g : fz_E F) : E - E / 3 * 3 = F - F / 3 * 3 ↔ fz_o E = fz_o F := by
  unfold fz_o
  rcases h.2 with e | e | e <;> rcases g.2 with f | f | f <;> rw [e, f] <;> decide
theorem fz_bb {c d A B C : Prop} (h : ¬ c) (k : ¬ d) (x : C) : (c → A) ∧ (¬ c → ((d → B) ∧ (¬ d → C))) := br_f h (br_f k x)
section
variable {sc lc cc cu st ic : Int32} {a1 a2 a3 a4 a5 a6 a7 a8 a9 a10 : Nat → Int32}
theorem fz_ref1 {P : St2 → Prop} (h : P (2, sc, lc, cc, 1, st, ic, a1, a2, a3, a4, a5, a6, a7, a8, a9, a10)) : wpX_refresh P (2, sc, lc, cc, 1, st, ic, a1, a2, a3, a4, a5, a6, a7, a8, a9, a10) := br_f (by decide) h
theorem fz_isS {P : Int32 → Prop} {p : Int32} (h0 : ¬ p < 0) (h2 : ¬ 2 ≤ p) (h : P 1) : wpX_isState P (2, sc, lc, cc, cu, st, ic, a1, a2, a3, a4, a5, a6, a7, a8, a9, a10) p := br_f h0 (br_f h2 h)
/-! read -/
theorem fz_read0 {P : Int32 → St2 → Prop} (e0 : a1 0 = 0) (H : P (-2) (2, sc, lc, cc, 1, (-1), 0, a1, a2, a3, a4, a5, a6, a7, a8, a9, a10)) : wpX_read P (2, sc, lc, cc, 1, 0, 0, a1, a2, a3, a4, a5, a6, a7, a8, a9, a10) 0 :=
  br_t rfl (br_f (by decide) (br_f (by decide) (fz_ref1 (fz_output 0 (by decide) (by decide) (v := -1) (by rw [e0]; decide) (br_t rfl
    ⟨fz_in (by decide), nm_e (fz_next 0 (by decide) (by decide) (v := -1) (by rw [e0]; decide) (br_t rfl (br_t rfl H)))⟩)))))
theorem fz_readX {P : Int32 → St2 → Prop} {p : Int32} (h0 : ¬ p = 0) (h1 : ¬ p = 1) (H : P (-1) (2, sc, lc, cc, cu, st, ic, a1, a2, a3, a4, a5, a6, a7, a8, a9, a10)) : wpX_read P (2, sc, lc, cc, cu, st, ic, a1, a2, a3, a4, a5, a6, a7, a8, a9, a10) p :=
  br_f h0 (br_f h1 (br_t rfl H))
theorem fz_read1 {P : Int32 → St2 → Prop} {E : Int32} (e1 : a1 1 = E) (h10 : ¬ fz_o E = -1 → a10 1 = fz_o E) (h0 : fz_o E = -1 → ∀ c, P (-2) (2, sc, lc, cc, 1, (fz_p E), c, a1, a2, a3, a4, a5, a6, a7, a8, a9, a10)) (h1 : ¬ fz_o E = -1 → ∀ c, P (fz_o E) (2, sc, lc, cc, 1, (fz_p E), c, a1, a2, a3, a4, a5, a6, a7, a8, a9, a10)) :
    wpX_read P (2, sc, lc, cc, 1, 0, 0, a1, a2, a3, a4, a5, a6, a7, a8, a9, a10) 1 := by
  refine br_f (by decide) (br_t rfl (br_f (by decide) (br_f (by decide) (fz_ref1 (fz_output 1 (by decide) (by decide) (v := fz_o E) (by rw [e1]) (br_c (fun ho => ?_) (fun ho => ?_)))))))
  · exact ⟨fz_in (by decide), nm_e (fz_next 1 (by decide) (by decide) (v := fz_p E) (by rw [e1]) (br_c (fun _ => br_t rfl (h0 ho _)) (fun _ => ⟨fz_in (by decide), nm_e (br_t rfl (h0 ho _))⟩)))⟩
  · exact ⟨fz_in (by decide), nm_r (h10 ho) (fz_next 1 (by decide) (by decide) (v := fz_p E) (by rw [e1]) (br_c (fun _ => br_f (by decide) (h1 ho _)) (fun _ => ⟨fz_in (by decide), nm_e (br_f (by decide) (h1 ho _))⟩)))⟩
variable {post : Int32 → St0 → Prop} {mc ms kc ks : Nat}
/-- the law's end: read and lost -/
theorem fz_274 {E x2 x6 x9 : Int32} (hp : post 1 ()) (e0 : a1 0 = 0) (e1 : a1 1 = E) (hE : fz_E E) (h6 : x6 = E - E / 3 * 3) (h9 : x9 = E / 3) (h10 : ¬ fz_o E = -1 → a10 1 = fz_o E) :
    wL_lawOf_274 post mc ms x2 x6 x9 kc ks 2 sc lc cc 1 0 0 a1 a2 a3 a4 a5 a6 a7 a8 a9 a10 := by
  subst h6 h9
  by_cases h0 : x2 = 0
  · subst h0
    refine br_t rfl ?_
    unfold wL_lawOf_285
    refine br_f (by decide) ?_
    unfold wL_lawOf_309 wL_lawOf_311
    refine fz_read0 e0 (br_f (by decide) (br_t rfl (br_t rfl (br_f (by decide) (br_t rfl ?_)))))
    exact br_t rfl hp
  · by_cases h1 : x2 = 1
    · subst h1
      refine br_f (by decide) (br_t rfl ?_)
      unfold wL_lawOf_285
      have K : ∀ c z, wL_lawOf_329 post mc ms 1 (E / 3) 1 z z kc ks 2 sc lc cc 1 (fz_p E) c a1 a2 a3 a4 a5 a6 a7 a8 a9 a10 := by
        intro c z
        refine br_t rfl (br_c (fun hm => br_f (by decide) (br_f (by decide) (br_t ((fz_Ep1 hE).mp hm) ?_))) (fun hm => br_f (by decide) (br_f (by decide) (br_f (fun z => hm ((fz_Ep1 hE).mpr z)) ?_))))
        · exact br_t rfl hp
        · exact br_t rfl hp
      refine br_t rfl (br_c (fun hx => ?_) (fun hx => ?_))
      · unfold wL_lawOf_309 wL_lawOf_311
        exact fz_read1 e1 h10 (fun _ c => br_f (by decide) (K c _)) (fun ho => absurd ((fz_Eo hE).mp hx) ho)
      · unfold wL_lawOf_311
        exact fz_read1 e1 h10 (fun ho => absurd ((fz_Eo hE).mpr ho) hx) (fun _ c => br_f (by decide) (K c _))
    · refine br_f h0 (br_f h1 (br_f h1 ?_))
      unfold wL_lawOf_309 wL_lawOf_311
      exact fz_readX h0 h1 (br_t rfl (br_t rfl (br_f (by decide) (br_t rfl (br_t rfl hp)))))
theorem fz_257 {E x0 x2 x4 x6 z : Int32} (hp : post 1 ()) (e0 : a1 0 = 0) (e1 : a1 1 = E) (hE : fz_E E) (h6 : x6 = E - E / 3 * 3) (hg : (x4 = 0 ∧ E = 0) ∨ (x4 = 1 ∧ x0 = E)) (h10 : ¬ fz_o E = -1 → a10 1 = fz_o E) :
    wL_lawOf_257 post mc ms x0 x2 x4 x6 z z kc ks 2 sc lc cc 1 0 0 a1 a2 a3 a4 a5 a6 a7 a8 a9 a10 := by
  rcases hg with ⟨rfl, rfl⟩ | ⟨rfl, rfl⟩
  · exact br_t rfl (br_t rfl (fz_274 hp e0 e1 hE h6 (by decide) h10))
  · exact br_t rfl (br_f (by decide) ⟨by decide, fz_274 hp e0 e1 hE h6 rfl h10⟩)
/-- from splitLength on, split -/
theorem fz_157S {E x0 x2 x4 x6 : Int32} (hp : post 1 ()) (e0 : a1 0 = 0) (e1 : a1 1 = E) (hE : fz_E E) (h6 : x6 = E - E / 3 * 3) (hg : (x4 = 0 ∧ E = 0) ∨ (x4 = 1 ∧ x0 = E)) (h10 : ¬ fz_o E = -1 → a10 1 = fz_o E)
    (l1 : a2 1 = 1) (l5 : a2 5 = 1) (e8 : a8 0 = 1) : wL_lawOf_157 post mc ms x0 x2 x4 x6 1 0 0 kc ks 2 sc 2 2 1 0 0 a1 a2 a3 a4 a5 a6 a7 a8 a9 a10 := by
  have n1 : ¬ a2 1 = 1000 := by rw [l1]; decide
  have K240 : wL_lawOf_240 post mc ms x0 x2 x4 x6 1 1 1 kc ks 2 sc 2 2 1 0 0 a1 a2 a3 a4 a5 a6 a7 a8 a9 a10 :=
    br_t rfl (fz_ref1 (br_f (by decide) (fz_257 hp e0 e1 hE h6 hg h10)))
  have K220 : wL_lawOf_220 post mc ms x0 x2 x4 x6 1 2 2 kc ks 2 sc 2 2 1 0 0 a1 a2 a3 a4 a5 a6 a7 a8 a9 a10 := by
    refine br_t rfl (fz_ref1 (br_f (by decide) (br_f (by decide) ⟨fz_in (by decide), br_f (by decide) ?_⟩)))
    show wL_lawOf_240 post mc ms x0 x2 x4 x6 1 1 (a8 0) kc ks 2 sc 2 2 1 0 0 a1 a2 a3 a4 a5 a6 a7 a8 a9 a10
    rw [e8]
    exact K240
  have K201 : wL_lawOf_201 post mc ms x0 x2 x4 x6 1 1 1 kc ks 2 sc 2 2 1 0 0 a1 a2 a3 a4 a5 a6 a7 a8 a9 a10 :=
    br_t rfl (fz_ref1 (br_f (by decide) K220))
  have K179 : wL_lawOf_179 post mc ms x0 x2 x4 x6 1 1 1 kc ks 2 sc 2 2 1 0 0 a1 a2 a3 a4 a5 a6 a7 a8 a9 a10 := by
    refine br_t rfl (fz_bb (by decide) (by decide) (br_f (by decide) (fz_isS (by decide) (by decide) (br_f (by decide) (fz_ref1 ⟨fz_in (by decide), br_f n1 ⟨fz_in (by decide), nm_r l1 ⟨2, ?_⟩⟩⟩)))))
    refine br_f (by decide) (fz_sp0 0 2 (by decide) (by decide) (by decide) (by decide) e0 (br_t rfl ?_))
    exact nm_r (show (2 : Int32) * 0 + 1 = 1 by decide) (br_t (by decide) (nm_r (show (1 : Int32) + (-1) = 0 by decide) (br_t (by decide) (br_f (by decide) K201))))
  have n5 : ¬ (1 : Int32) = 1000 := by decide
  exact br_t rfl (fz_bb (by decide) (by decide) (br_f (by decide) (fz_isS (by decide) (by decide) (br_f (by decide) (fz_ref1 ⟨fz_in (by decide), nm_r l5 (br_f n5 (br_f (by decide) K179))⟩)))))
/-- the same, not split -/
theorem fz_157N {E x0 x2 x4 x6 : Int32} (hp : post 1 ()) (e0 : a1 0 = 0) (e1 : a1 1 = E) (hE : fz_E E) (h6 : x6 = E - E / 3 * 3) (hg : (x4 = 0 ∧ E = 0) ∨ (x4 = 1 ∧ x0 = E)) (h10 : ¬ fz_o E = -1 → a10 1 = fz_o E)
    (l1 : a2 1 = 1000) (l5 : a2 5 = 1000) (e8 : a8 0 = 3) : wL_lawOf_157 post mc ms x0 x2 x4 x6 0 1 1 kc ks 2 sc 1 1 1 0 0 a1 a2 a3 a4 a5 a6 a7 a8 a9 a10 := by
  have K240 : wL_lawOf_240 post mc ms x0 x2 x4 x6 0 3 3 kc ks 2 sc 1 1 1 0 0 a1 a2 a3 a4 a5 a6 a7 a8 a9 a10 :=
    br_t rfl (fz_ref1 (br_t rfl (fz_257 hp e0 e1 hE h6 hg h10)))
  have K220 : wL_lawOf_220 post mc ms x0 x2 x4 x6 0 1 1 kc ks 2 sc 1 1 1 0 0 a1 a2 a3 a4 a5 a6 a7 a8 a9 a10 := by
    refine br_t rfl (fz_ref1 (br_f (by decide) (br_f (by decide) ⟨fz_in (by decide), br_t rfl ?_⟩)))
    show wL_lawOf_240 post mc ms x0 x2 x4 x6 0 3 (a8 0) kc ks 2 sc 1 1 1 0 0 a1 a2 a3 a4 a5 a6 a7 a8 a9 a10
    rw [e8]
    exact K240
  have K201 : wL_lawOf_201 post mc ms x0 x2 x4 x6 0 (-2) (-2) kc ks 2 sc 1 1 1 0 0 a1 a2 a3 a4 a5 a6 a7 a8 a9 a10 :=
    br_t rfl (fz_ref1 (br_t rfl K220))
  have K179 : wL_lawOf_179 post mc ms x0 x2 x4 x6 0 (-2) (-2) kc ks 2 sc 1 1 1 0 0 a1 a2 a3 a4 a5 a6 a7 a8 a9 a10 :=
    br_t rfl (fz_bb (by decide) (by decide) (br_f (by decide) (fz_isS (by decide) (by decide) (br_f (by decide) (fz_ref1 ⟨fz_in (by decide), br_t l1 (br_t rfl K201)⟩)))))
  exact br_t rfl (fz_bb (by decide) (by decide) (br_f (by decide) (fz_isS (by decide) (by decide) (br_f (by decide) (fz_ref1 ⟨fz_in (by decide), nm_r l5 (br_t rfl (br_t rfl K179))⟩)))))
theorem fz_139S {E F x0 x2 x4 x6 : Int32} (hp : post 1 ()) (hA : fz_A a1 E F) (hE : fz_E E) (hF : fz_E F) (hS : fz_S E F) (h6 : x6 = E - E / 3 * 3) (hg : (x4 = 0 ∧ E = 0) ∨ (x4 = 1 ∧ x0 = E)) :
    wL_lawOf_139 post mc ms x0 x2 x4 x6 1 kc ks 2 sc lc cc 0 0 ic a1 a2 a3 a4 a5 a6 a7 a8 a9 a10 := by
  unfold wL_lawOf_139
  refine fz_bb (by decide) (by decide) (br_f (by decide) (fz_isS (by decide) (by decide) (br_f (by decide) (fz_refS hA (fz_Ep hE) (fz_Ep hF) hS (fun b2 b3 b4 b5 b6 b7 b8 b9 b10 l1 l5 e8 h10 => ?_)))))
  have n1 : ¬ b2 1 = 1000 := by rw [l1]; decide
  exact ⟨fz_in (by decide), br_f n1 (br_f (by decide) (fz_157S hp hA.1 hA.2.1 hE h6 hg h10 l1 l5 e8))⟩
theorem fz_139N {E F x0 x2 x4 x6 : Int32} (hp : post 1 ()) (hA : fz_A a1 E F) (hE : fz_E E) (hF : fz_E F) (hS : ¬ fz_S E F) (h6 : x6 = E - E / 3 * 3) (hg : (x4 = 0 ∧ E = 0) ∨ (x4 = 1 ∧ x0 = E)) :
    wL_lawOf_139 post mc ms x0 x2 x4 x6 0 kc ks 2 sc lc cc 0 0 ic a1 a2 a3 a4 a5 a6 a7 a8 a9 a10 := by
  unfold wL_lawOf_139
  refine fz_bb (by decide) (by decide) (br_f (by decide) (fz_isS (by decide) (by decide) (br_f (by decide) (fz_refN hA (fz_Ep hE) (fz_Ep hF) hS (fun b2 b3 b4 b5 b6 b7 b8 b9 b10 l1 l5 e8 h10 => ?_)))))
  exact ⟨fz_in (by decide), br_t l1 (br_t rfl (fz_157N hp hA.1 hA.2.1 hE h6 hg h10 l1 l5 e8))⟩
theorem fz_115 {E F x0 x2 x4 x6 y : Int32} (hp : post 1 ()) (hA : fz_A a1 E F) (hE : fz_E E) (hF : fz_E F) (h6 : x6 = E - E / 3 * 3) (hy : y = F - F / 3 * 3) (hg : (x4 = 0 ∧ E = 0) ∨ (x4 = 1 ∧ x0 = E)) :
    wL_lawOf_115 post mc ms x0 x2 x4 x6 y kc ks 2 sc lc cc 0 0 ic a1 a2 a3 a4 a5 a6 a7 a8 a9 a10 := by
  subst h6 hy
  have N : ¬ fz_S E F → wL_lawOf_138 post mc ms x0 x2 x4 (E - E / 3 * 3) kc ks 2 sc lc cc 0 0 ic a1 a2 a3 a4 a5 a6 a7 a8 a9 a10 := fun hS => by
    unfold wL_lawOf_138
    exact fz_139N hp hA hE hF hS rfl hg
  refine br_c (fun h => N (fun z => z (Or.inl ((fz_Eo0 hE).mp h)))) (fun h => br_c (fun g => N (fun z => z (Or.inr (Or.inl ((fz_Eo0 hF).mp g))))) (fun g => br_c (fun k => N (fun z => z (Or.inr (Or.inr ((fz_Eoo hE hF).mp k))))) (fun k => ?_)))
  exact fz_139S hp hA hE hF (fun z => z.elim (fun z => h ((fz_Eo0 hE).mpr z)) (fun z => z.elim (fun z => g ((fz_Eo0 hF).mpr z)) (fun z => k ((fz_Eoo hE hF).mpr z)))) rfl hg
theorem fz_84 {E F x0 x1 x2 x4 x5 z : Int32} (hp : post 1 ()) (hA : fz_A a1 E F) (hE : fz_E E) (hF : fz_E F) (hg : (x4 = 0 ∧ E = 0) ∨ (x4 = 1 ∧ x0 = E)) (hh : (x5 = 0 ∧ F = 0) ∨ (x5 = 1 ∧ x1 = F)) :
    wL_lawOf_84 post mc ms x0 x1 x2 x4 x5 z z kc ks 2 sc lc cc 0 0 ic a1 a2 a3 a4 a5 a6 a7 a8 a9 a10 := by
  have K : ∀ x, x = E - E / 3 * 3 → wL_lawOf_101 post mc ms x0 x1 x2 x4 x5 x kc ks 2 sc lc cc 0 0 ic a1 a2 a3 a4 a5 a6 a7 a8 a9 a10 := by
    intro x hx
    rcases hh with ⟨h, f⟩ | ⟨h, f⟩
    · exact br_t h (fz_115 hp hA hE hF hx (by rw [f]; decide) hg)
    · exact br_f (by rw [h]; decide) ⟨by decide, fz_115 hp hA hE hF hx (by rw [f]) hg⟩
  rcases hg with ⟨h, f⟩ | ⟨h, f⟩
  · exact br_t rfl (br_t h (K 0 (by rw [f]; decide)))
  · exact br_t rfl (br_f (by rw [h]; decide) ⟨by decide, K _ (by rw [f])⟩)
/-- set: taken, or refused -/
theorem fz_set {P : Int32 → St2 → Prop} {s x : Int32} (k : Nat) (hk : k < 10) (e : 2 * s + 1 = nI k) (h0 : ¬ s < 0) (h2 : ¬ 2 ≤ s) (hb : (x < 0 ∨ 9 ≤ x) → P (-3) (2, sc, lc, cc, cu, st, ic, a1, a2, a3, a4, a5, a6, a7, a8, a9, a10)) (hok : ¬ x < 0 → ¬ 9 ≤ x → P (a1 k) (2, sc, lc, cc, 0, 0, ic, (upd a1 k x), a2, a3, a4, a5, a6, a7, a8, a9, a10)) :
    wpX_set P (2, sc, lc, cc, cu, st, ic, a1, a2, a3, a4, a5, a6, a7, a8, a9, a10) s 1 x := by
  have hin : vp_in (2 * s + 1) 10 := by rw [e]; exact vp_in_nI hk (by omega)
  have ek : (2 * s + 1).toNatClampNeg = k := by rw [e, nI_clamp (by omega)]
  have e9 : (3 : Int32) * (2 + 1) = 9 := by decide
  refine fz_bb h0 h2 (br_f (by decide) (br_f (by decide) (br_t rfl (br_f (by decide) (br_c (fun a => hb (Or.inl a)) (fun a => br_c (fun b => ⟨hin, nm_r (by rw [ek]) ⟨hin, nm_r (by rw [ek]) (hok a (fun z => ?_))⟩⟩) (fun b => hb (Or.inr ?_))))))))
  · rw [e9] at b
    exact absurd b (Int32.not_lt.mpr z)
  · rw [e9] at b
    exact Int32.not_lt.mp b
/-- a flag says whether set takes the entry -/
def fz_G (g x : Int32) : Prop := (g = 0 ∧ (x < 0 ∨ 9 ≤ x)) ∨ (g = 1 ∧ ¬ x < 0 ∧ ¬ 9 ≤ x)
theorem fz_Gb {g x : Int32} (h : fz_G g x) (hb : x < 0 ∨ 9 ≤ x) : g = 0 := h.elim (fun z => z.1) (fun z => hb.elim (fun y => absurd y z.2.1) (fun y => absurd y z.2.2))
theorem fz_Gg {g x : Int32} (h : fz_G g x) (h0 : ¬ x < 0) (h9 : ¬ 9 ≤ x) : g = 1 := h.elim (fun z => z.2.elim (fun y => absurd y h0) (fun y => absurd y h9)) (fun z => z.1)
theorem fz_61 {E x0 x1 x2 x4 x5 z : Int32} (hp : post 1 ()) (hA : fz_A a1 E 0) (hE : fz_E E) (hg : (x4 = 0 ∧ E = 0) ∨ (x4 = 1 ∧ x0 = E)) (hh : fz_G x5 x1) :
    wL_lawOf_61 post mc ms x0 x1 x2 x4 x5 z z kc ks 2 sc lc cc 0 0 ic a1 a2 a3 a4 a5 a6 a7 a8 a9 a10 := by
  refine br_t rfl (fz_set 3 (by decide) (by decide) (by decide) (by decide) (fun hb => ?_) (fun h0 h9 => ?_))
  · have h5 := fz_Gb hh hb
    exact br_t h5 (fz_84 hp hA hE fz_E0 hg (Or.inl ⟨h5, rfl⟩))
  · have h5 := fz_Gg hh h0 h9
    have hA' : fz_A (upd a1 3 x1) E x1 := ⟨hA.1, hA.2.1, hA.2.2.1, rfl⟩
    rw [hA.2.2.2]
    exact br_f (by rw [h5]; decide) (fz_84 hp hA' hE (fz_Eof h0 h9) hg (Or.inr ⟨h5, rfl⟩))
theorem fz_41 {x0 x1 x2 x4 x5 : Int32} (hp : post 1 ()) (hA : fz_A a1 0 0) (hg : fz_G x4 x0) (hh : fz_G x5 x1) : wL_lawOf_41 post mc ms x0 x1 x2 x4 x5 kc ks 2 sc lc cc 0 0 ic a1 a2 a3 a4 a5 a6 a7 a8 a9 a10 := by
  unfold wL_lawOf_41
  refine fz_set 1 (by decide) (by decide) (by decide) (by decide) (fun hb => ?_) (fun h0 h9 => ?_)
  · have h5 := fz_Gb hg hb
    exact br_t h5 (fz_61 hp hA fz_E0 (Or.inl ⟨h5, rfl⟩) hh)
  · have h5 := fz_Gg hg h0 h9
    have hA' : fz_A (upd a1 1 x0) x0 0 := ⟨hA.1, rfl, hA.2.2.1, hA.2.2.2⟩
    rw [hA.2.1]
    exact br_f (by rw [h5]; decide) (fz_61 hp hA' (fz_Eof h0 h9) (Or.inr ⟨h5, rfl⟩) hh)
theorem fz_24 {x0 x1 x2 x4 : Int32} (hp : post 1 ()) (hA : fz_A a1 0 0) (hg : fz_G x4 x0) : wL_lawOf_24 post mc ms x0 x1 x2 x4 kc ks 2 sc lc cc 0 0 ic a1 a2 a3 a4 a5 a6 a7 a8 a9 a10 := by
  have N : (x1 < 0 ∨ 9 ≤ x1) → wL_lawOf_40 post mc ms x0 x1 x2 x4 kc ks 2 sc lc cc 0 0 ic a1 a2 a3 a4 a5 a6 a7 a8 a9 a10 := fun h => by
    unfold wL_lawOf_40
    exact fz_41 hp hA hg (Or.inl ⟨rfl, h⟩)
  exact br_c (fun a => N (Or.inl a)) (fun a => br_c (fun b => N (Or.inr b)) (fun b => fz_41 hp hA hg (Or.inr ⟨rfl, a, b⟩)))
end
end
section
theorem fz_lawOf {post : Int32 → St0 → Prop} {x0 x1 x2 : Int32} (hp : post 1 ()) : wpL_lawOf post 116 1840 () x0 x1 x2 := by
  refine ⟨by decide, by decide, 115, 1823, by decide, by decide, ?_⟩
  refine ⟨by decide, by decide, by decide, by decide, by decide, by decide, by decide, by decide, by decide, by decide, by decide, by decide, by decide, by decide, by decide, by decide, by decide, by decide, by decide, by decide, br_t (by decide) (br_t (by decide) ?_)⟩
  have hA : fz_A (fun _ => 0) 0 0 := ⟨rfl, rfl, rfl, rfl⟩
  refine br_c (fun a => ?_) (fun a => br_c (fun b => ?_) (fun b => fz_24 hp hA (Or.inr ⟨rfl, a, b⟩)))
  · unfold wL_lawOf_23
    exact fz_24 hp hA (Or.inl ⟨rfl, Or.inl a⟩)
  · unfold wL_lawOf_23
    exact fz_24 hp hA (Or.inl ⟨rfl, Or.inr b⟩)
theorem fz_cell {P : Int32 → Prop} {L : Nat} {xs : Nat → Int32} {u : St0} (k : Nat) {p : Int32} (hL : L ≤ 3) (hk : k < 3) (ep : p = nI k) (h : ∀ v, P v) : wpL_cellAt P L xs u p :=
  pk_le L k (fun _ => h _) (fun z => ⟨pk_in k L z ep, h _⟩) (hy := ep)
theorem i_vc (xs : Nat → Int32) (L : Nat) (hL : L ≤ 3) : wpL_law (fun r => r = 1) L xs := by
  unfold wpL_law
  exact fz_cell 0 hL (by decide) (by decide) (fun v0 => fz_cell 1 hL (by decide) (by decide) (fun v1 => fz_cell 2 hL (by decide) (by decide) (fun v2 => ⟨116, 1840, by decide, by decide, fz_lawOf rfl⟩)))
end
