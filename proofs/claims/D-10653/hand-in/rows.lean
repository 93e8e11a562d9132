section
/-- one instruction is safe at depth m and leaves depth m' -/
def ss_ok (op x : Int32) (m m' : Nat) : Prop :=
  (op = 0 ∧ m < 16 ∧ m' = m + 1) ∨
  (op = 1 ∧ m < 16 ∧ m' = m + 1 ∧ ∃ k, k < 16 ∧ nI m - 1 - x = nI k) ∨
  (op = 7 ∧ m ≤ 16 ∧ m' = m ∧ ∃ k, k < m ∧ nI m - 1 - x = nI k) ∨
  (op = 8 ∧ m ≤ 16 ∧ m' + 1 = m) ∨
  ((∃ t, 2 ≤ t ∧ t ≤ 6 ∧ op = nI t) ∧ m ≤ 16 ∧ 1 ≤ m' ∧ m' + 1 = m)
/-- the first n instructions are safe from depth 6 on, and leave depth M -/
def ss_safe (a6 a7 : Nat → Int32) (n M : Nat) : Prop := ∃ f : Nat → Nat, f 0 = 6 ∧ f n = M ∧ ∀ k, k < n → ss_ok (a6 k) (a7 k) (f k) (f (k + 1))
theorem ss_safe0 (a6 a7 : Nat → Int32) : ss_safe a6 a7 0 6 := ⟨fun _ => 6, rfl, rfl, fun k hk => absurd hk (by omega)⟩
theorem ss_safeA {a6 a7 : Nat → Int32} {n M M' : Nat} {op x : Int32} (h : ss_safe a6 a7 n M) (ho : ss_ok op x M M') : ss_safe (upd a6 n op) (upd a7 n x) (n + 1) M' := by
  obtain ⟨f, h0, hM, hf⟩ := h
  refine ⟨fun k => if k ≤ n then f k else M', ?_, ?_, fun k hk => ?_⟩
  · show (if 0 ≤ n then f 0 else M') = 6
    rw [if_pos (by omega), h0]
  · show (if n + 1 ≤ n then f (n + 1) else M') = M'
    rw [if_neg (by omega)]
  · show ss_ok (upd a6 n op k) (upd a7 n x k) (if k ≤ n then f k else M') (if k + 1 ≤ n then f (k + 1) else M')
    by_cases e : k = n
    · subst e
      rw [pk_us, pk_us, if_pos (by omega), if_neg (by omega), hM]
      exact ho
    · rw [pk_un e, pk_un e, if_pos (by omega), if_pos (by omega)]
      exact hf k (by omega)
theorem ss_m1 {D : Nat} (h : 1 ≤ D) : nI D - 1 = nI (D - 1) := by
  have t := nI_pred (D - 1)
  rwa [show D - 1 + 1 = D by omega] at t
theorem ss_mk {D k : Nat} (h : k < D) : nI D - 1 - nI k = nI (D - 1 - k) := by
  rw [ss_m1 (by omega), pk_sub (by omega)]
theorem ss_mm (x : Int32) : x - 1 - (-1) = x := by grind
theorem ss_b8 : ∀ k, k < 128 → (nI k).toInt8.toInt32 = nI k := by decide +kernel
theorem ss_le {x y : Int32} : ¬ x < y ↔ y ≤ x := Int32.not_lt
/-- what distance answers -/
def ss_D (a8 : Nat → Int32) (D : Nat) (x r : Int32) : Prop := (r = -1 ∧ ∀ i, i < D → ¬ a8 i = x) ∨ (∃ k, k < D ∧ r = nI k ∧ a8 (D - 1 - k) = x)
theorem ss_dup {a8 : Nat → Int32} {D : Nat} {x r : Int32} (h : ss_D a8 D x r) (hD : D < 16) : ss_ok (1 : Int32).toInt8.toInt32 r D (D + 1) := by
  refine Or.inr (Or.inl ⟨by decide, hD, rfl, ?_⟩)
  rcases h with ⟨e, _⟩ | ⟨k, hk, e, _⟩
  · exact ⟨D, hD, by rw [e, ss_mm]⟩
  · exact ⟨D - 1 - k, by omega, by rw [e, ss_mk hk]⟩
theorem ss_pul {D k : Nat} (hk : k < D) (hD : D ≤ 16) : ss_ok (7 : Int32).toInt8.toInt32 (nI k) D D :=
  Or.inr (Or.inr (Or.inl ⟨by decide, hD, rfl, D - 1 - k, by omega, ss_mk hk⟩))
theorem ss_psh {D : Nat} {x : Int32} (hD : D < 16) : ss_ok (0 : Int32).toInt8.toInt32 x D (D + 1) :=
  Or.inl ⟨by decide, hD, rfl⟩
theorem ss_drp {D : Nat} {x : Int32} (h1 : 1 ≤ D) (hD : D ≤ 16) : ss_ok (8 : Int32).toInt8.toInt32 x D (D - 1) :=
  Or.inr (Or.inr (Or.inr (Or.inl ⟨by decide, hD, by omega⟩)))
theorem ss_ari {D t : Nat} {x : Int32} (h2 : 2 ≤ t) (h6 : t ≤ 6) (h1 : 2 ≤ D) (hD : D ≤ 16) : ss_ok (nI t).toInt8.toInt32 x D (D - 1) :=
  Or.inr (Or.inr (Or.inr (Or.inr ⟨⟨t, h2, h6, ss_b8 t (by omega)⟩, hD, by omega, by omega⟩)))
end
section
section
variable {fl fc fs fe fd fo fb fp fq : Int32} {a1 a2 a3 a4 a5 a6 a7 a8 a9 a10 a11 a12 : Nat → Int32}
theorem ss_write {post : St2 → Prop} {op x : Int32} {n : Nat} (hn : n < 560) (H : post (fl, fc, fs, nI (n + 1), fd, fo, fb, fp, fq, a1, a2, a3, a4, a5, upd a6 n op.toInt8.toInt32, upd a7 n x, a8, a9, a10, a11, a12)) : wpX_write post (fl, fc, fs, nI n, fd, fo, fb, fp, fq, a1, a2, a3, a4, a5, a6, a7, a8, a9, a10, a11, a12) op x := by
  unfold wpX_write
  dsimp only
  exact ⟨pk_in n 560 hn, nm_r (by rw [nI_clamp (by omega)]) ⟨pk_in n 560 hn, nm_r (by rw [nI_clamp (by omega)]) (nm_r (nI_1 n) H)⟩⟩
theorem ss_writeS {post : St2 → Prop} {op x : Int32} {n M M' : Nat} (hn : n < 560) (hs : ss_safe a6 a7 n M) (ho : ss_ok op.toInt8.toInt32 x M M') (H : ∀ a6' a7', ss_safe a6' a7' (n + 1) M' → post (fl, fc, fs, nI (n + 1), fd, fo, fb, fp, fq, a1, a2, a3, a4, a5, a6', a7', a8, a9, a10, a11, a12)) : wpX_write post (fl, fc, fs, nI n, fd, fo, fb, fp, fq, a1, a2, a3, a4, a5, a6, a7, a8, a9, a10, a11, a12) op x :=
  ss_write hn (H _ _ (ss_safeA hs ho))
theorem ss_push {post : St2 → Prop} {x : Int32} {D : Nat} (hD : D < 16) (H : post (fl, fc, fs, fe, nI (D + 1), fo, fb, fp, fq, a1, a2, a3, a4, a5, a6, a7, upd a8 D x.toInt8.toInt32, a9, a10, a11, a12)) : wpX_pushLayout post (fl, fc, fs, fe, nI D, fo, fb, fp, fq, a1, a2, a3, a4, a5, a6, a7, a8, a9, a10, a11, a12) x := by
  unfold wpX_pushLayout
  dsimp only
  exact ⟨pk_in D 16 hD, nm_r (by rw [nI_clamp (by omega)]) (nm_r (nI_1 D) H)⟩
theorem ss_dist {post : Int32 → Prop} {x : Int32} {D : Nat} (hD : D ≤ 16) (H : ∀ r, ss_D a8 D x r → post r) : wpX_distance post (fl, fc, fs, fe, nI D, fo, fb, fp, fq, a1, a2, a3, a4, a5, a6, a7, a8, a9, a10, a11, a12) x := by
  unfold wpX_distance
  dsimp only
  refine pk_loop (σ := Unit) (fun n i _ => wX_distance_2 post x fl fc fs fe (nI D) fo fb fp fq a1 a2 a3 a4 a5 a6 a7 a8 a9 a10 a11 a12 n (nI i)) (fun i _ => ∀ j, j < i → ¬ a8 (D - 1 - j) = x) D 0 () (by omega) (fun j hj => absurd hj (by omega)) (fun n _ h => ?_) (fun n i _ hi h hw => ?_)
  · exact pk_le D D (fun _ => H _ (Or.inl ⟨rfl, fun i hi => by
      have t := h (D - 1 - i) (by omega)
      rwa [show D - 1 - (D - 1 - i) = i by omega] at t⟩)) (fun z => absurd z (by omega))
  · refine pk_le D i (fun z => absurd z (by omega)) (fun _ => ⟨pk_in (D - 1 - i) 16 (by omega) (ss_mk hi), ?_⟩)
    rw [ss_mk hi, nI_clamp (by omega)]
    refine br_c (fun g => H _ (Or.inr ⟨i, hi, rfl, g⟩)) (fun g => nm_r (nI_1 i) (hw () (fun j hj => ?_)))
    by_cases e : j = i
    · rw [e]
      exact g
    · exact h j (by omega)
theorem ss_pl {post : St2 → Prop} {x : Int32} {D k : Nat} (h1 : 1 ≤ D) (hD : D ≤ 16) (hk : k ≤ D) (H : ∀ a8', post (fl, fc, fs, fe, nI D, fo, fb, fp, fq, a1, a2, a3, a4, a5, a6, a7, a8', a9, a10, a11, a12)) : ∃ fu, wX_pullUp_26 post x fl fc fs fe (nI D) fo fb fp fq fu (nI k) a1 a2 a3 a4 a5 a6 a7 a8 a9 a10 a11 a12 := by
  by_cases hc : k ≤ D - 1
  · refine pk_loop (fun n i s => wX_pullUp_26 post x fl fc fs fe (nI D) fo fb fp fq n (nI i) a1 a2 a3 a4 a5 a6 a7 s a9 a10 a11 a12) (fun _ _ => True) (D - 1) k a8 hc trivial (fun n s _ => ?_) (fun n i s hi _ hw => ?_)
    · exact pk_le (D - 1) (D - 1) (fun _ => ⟨pk_in (D - 1) 16 (by omega) (ss_m1 h1), nm_e (H _)⟩) (fun z => absurd z (by omega)) (ss_m1 h1)
    · exact pk_le (D - 1) i (fun z => absurd z (by omega)) (fun _ => ⟨pk_in (i + 1) 16 (by omega) (nI_1 i), pk_in i 16 (by omega), nm_e (nm_r (nI_1 i) (hw _ trivial))⟩) (ss_m1 h1)
  · exact ⟨0 + 1, pk_le (D - 1) k (fun _ => ⟨pk_in (D - 1) 16 (by omega) (ss_m1 h1), nm_e (H _)⟩) (fun z => absurd z (by omega)) (ss_m1 h1)⟩
theorem ss_pullUp {post : St2 → Prop} {x : Int32} {n D : Nat} (hn : n < 560) (h1 : 1 ≤ D) (hD : D ≤ 16) (hs : ss_safe a6 a7 n D) (H : ∀ n' a6' a7' a8', n' ≤ n + 1 → ss_safe a6' a7' n' D → post (fl, fc, fs, nI n', nI D, fo, fb, fp, fq, a1, a2, a3, a4, a5, a6', a7', a8', a9, a10, a11, a12)) : wpX_pullUp post (fl, fc, fs, nI n, nI D, fo, fb, fp, fq, a1, a2, a3, a4, a5, a6, a7, a8, a9, a10, a11, a12) x := by
  unfold wpX_pullUp
  dsimp only
  refine ss_dist hD (fun r hr => ?_)
  rcases hr with ⟨e, _⟩ | ⟨k, hk, e, _⟩
  · subst e
    exact br_t (by decide) (nm_r (ss_mm _) (ss_pl h1 hD (Nat.le_refl D) (fun a8' => H n _ _ _ (by omega) hs)))
  · subst e
    refine pk_le k 0 (fun z => ?_) (fun z => ?_)
    · exact nm_r (ss_mk hk) (ss_pl h1 hD (by omega) (fun a8' => H n _ _ _ (by omega) hs))
    · exact ss_writeS hn hs (ss_pul hk hD) (fun a6' a7' h' => nm_r (ss_mk hk) (ss_pl h1 hD (by omega) (fun a8' => H (n + 1) _ _ _ (by omega) h')))
theorem ss_a33 {post : St2 → Prop} {n D i : Nat} (hi : i ≤ 6) (hn : n + 6 ≤ 560) (h1 : 1 ≤ D) (hD : D ≤ 16) (hs : ss_safe a6 a7 n D) (H : ∀ n' a6' a7' a8', n' ≤ n + 6 → ss_safe a6' a7' n' D → post (fl, fc, fs, nI n', nI D, fo, fb, fp, fq, a1, a2, a3, a4, a5, a6', a7', a8', a9, a10, a11, a12)) : ∃ fu, wX_arrange_33 post 6 fu (nI i) fl fc fs (nI n) (nI D) fo fb fp fq a1 a2 a3 a4 a5 a6 a7 a8 a9 a10 a11 a12 := by
  refine pk_loop (σ := Nat × (Nat → Int32) × (Nat → Int32) × (Nat → Int32)) (fun m j s => wX_arrange_33 post 6 m (nI j) fl fc fs (nI s.1) (nI D) fo fb fp fq a1 a2 a3 a4 a5 s.2.1 s.2.2.1 s.2.2.2 a9 a10 a11 a12) (fun j s => s.1 + i ≤ n + j ∧ ss_safe s.2.1 s.2.2.1 s.1 D) 6 i (n, a6, a7, a8) hi ⟨Nat.le_refl _, hs⟩ (fun m s h => ?_) (fun m j s hj h hw => ?_)
  · obtain ⟨ha, hb⟩ : s.1 + i ≤ n + 6 ∧ ss_safe s.2.1 s.2.2.1 s.1 D := h
    exact pk_le 6 6 (fun _ => H _ _ _ _ (by omega) hb) (fun z => absurd z (by omega))
  · obtain ⟨ha, hb⟩ : s.1 + i ≤ n + j ∧ ss_safe s.2.1 s.2.2.1 s.1 D := h
    refine pk_le 6 j (fun z => absurd z (by omega)) (fun _ => ss_pullUp (by omega) h1 hD hb (fun n' a6' a7' a8' hn' hs' => ?_))
    have hq : n' + i ≤ n + (j + 1) := by omega
    exact nm_r (nI_1 j) (hw (n', a6', a7', a8') ⟨hq, hs'⟩)
theorem ss_arrange {post : St2 → Prop} {n D : Nat} (hn : n + 6 ≤ 560) (h1 : 1 ≤ D) (hD : D ≤ 16) (hs : ss_safe a6 a7 n D) (H : ∀ n' a6' a7' a8', n' ≤ n + 6 → ss_safe a6' a7' n' D → post (fl, fc, fs, nI n', nI D, 0, fb, fp, fq, a1, a2, a3, a4, a5, a6', a7', a8', a9, a10, a11, a12)) : wpX_arrange post (fl, fc, fs, nI n, nI D, 0, fb, fp, fq, a1, a2, a3, a4, a5, a6, a7, a8, a9, a10, a11, a12) := by
  unfold wpX_arrange
  dsimp only
  refine nm_r (e' := 6) (by decide) ?_
  refine pk_loop (σ := Unit) (fun m j _ => wX_arrange_10 post 6 fl fc fs (nI n) (nI D) 0 fb fp fq a1 a2 a3 a4 a5 a6 a7 a8 a9 a10 a11 a12 m (nI j)) (fun _ _ => True) 6 0 () (by omega) trivial (fun m _ _ => ?_) (fun m j _ hj _ hw => ?_)
  · exact pk_le 6 6 (fun _ => ss_a33 (Nat.le_refl 6) hn h1 hD hs H) (fun z => absurd z (by omega))
  · exact pk_le 6 j (fun z => absurd z (by omega)) (fun _ => ⟨pk_in j 16 (by omega), br_c (fun _ => nm_r (nI_1 j) (hw () trivial)) (fun _ => ss_a33 (by omega) hn h1 hD hs H)⟩)
/-- the layout is in order already: nothing is written -/
theorem ss_arrangeI {post : St2 → Prop} (h8 : ∀ j, j < 6 → a8 j = nI j) (H : post (fl, fc, fs, fe, fd, 0, fb, fp, fq, a1, a2, a3, a4, a5, a6, a7, a8, a9, a10, a11, a12)) : wpX_arrange post (fl, fc, fs, fe, fd, 0, fb, fp, fq, a1, a2, a3, a4, a5, a6, a7, a8, a9, a10, a11, a12) := by
  unfold wpX_arrange
  dsimp only
  refine nm_r (e' := 6) (by decide) ?_
  refine pk_loop (σ := Unit) (fun m j _ => wX_arrange_10 post 6 fl fc fs fe fd 0 fb fp fq a1 a2 a3 a4 a5 a6 a7 a8 a9 a10 a11 a12 m (nI j)) (fun _ _ => True) 6 0 () (by omega) trivial (fun m _ _ => ?_) (fun m j _ hj _ hw => ?_)
  · exact pk_le 6 6 (fun _ => ⟨0 + 1, pk_le 6 6 (fun _ => H) (fun z => absurd z (by omega))⟩) (fun z => absurd z (by omega))
  · exact pk_le 6 j (fun z => absurd z (by omega)) (fun _ => ⟨pk_in j 16 (by omega), br_t (by rw [nI_clamp (by omega)]; exact h8 j hj) (nm_r (nI_1 j) (hw () trivial))⟩)
end
end
section
section
variable {fl fc fs fe fd fo fb fp fq : Int32} {a1 a2 a3 a4 a5 a6 a7 a8 a9 a10 a11 a12 : Nat → Int32}
theorem ss_bnd {post : Int32 → Prop} {k : Nat} (hk : k < 8) (h1 : a1 0 = nI k) (H : post 0) : wpX_isBoundary post (1, fc, fs, fe, fd, fo, fb, fp, fq, a1, a2, a3, a4, a5, a6, a7, a8, a9, a10, a11, a12) 0 := by
  unfold wpX_isBoundary
  dsimp only
  refine pk_le 1 0 (fun z => absurd z (by omega)) (fun _ => ⟨pk_in 0 40 (by omega), ?_⟩)
  rw [sb_cl0]
  exact pk_lt k 8 (fun _ => H) (fun z => absurd z (by omega)) h1
theorem ss_bnd1 {post : Int32 → Prop} (H : post 1) : wpX_isBoundary post (1, fc, fs, fe, fd, fo, fb, fp, fq, a1, a2, a3, a4, a5, a6, a7, a8, a9, a10, a11, a12) (nI 1) := by
  unfold wpX_isBoundary
  dsimp only
  exact pk_le 1 1 (fun _ => H) (fun z => absurd z (by omega))
theorem ss_wrA {post : Int32 → Prop} (H : ∀ r, post r) : wpX_writes post (fl, fc, fs, fe, fd, fo, fb, fp, fq, a1, a2, a3, a4, a5, a6, a7, a8, a9, a10, a11, a12) 0 := by
  unfold wpX_writes
  dsimp only
  exact ⟨pk_in 0 40 (by omega), nm_e (br_c (fun _ => ⟨pk_in 0 40 (by omega), H _⟩) (fun _ => br_c (fun _ => H _) (fun _ => ⟨pk_in 0 40 (by omega), H _⟩)))⟩
theorem ss_wr7 {post : Int32 → Prop} (h : a1 0 = 7) (H : post (-1)) : wpX_writes post (fl, fc, fs, fe, fd, fo, fb, fp, fq, a1, a2, a3, a4, a5, a6, a7, a8, a9, a10, a11, a12) 0 := by
  unfold wpX_writes
  dsimp only
  exact ⟨pk_in 0 40 (by omega), nm_r (e' := 7) (by rw [sb_cl0]; exact h) (br_f (by decide) (br_t (by decide) H))⟩
theorem ss_wan {post : Int32 → Prop} {x : Int32} (H : post 1) : wpX_wantedAfter post (1, fc, fs, fe, fd, fo, fb, fp, fq, a1, a2, a3, a4, a5, a6, a7, a8, a9, a10, a11, a12) 0 x := by
  unfold wpX_wantedAfter
  dsimp only
  refine nm_r (e' := nI 1) (by decide) ⟨0 + 1, ?_⟩
  unfold wX_wantedAfter_4
  exact ss_bnd1 (br_f (by decide) H)
theorem ss_f53 {post : St2 → Prop} {x : Int32} {n D : Nat} (hn : n < 560) (hD : D < 16) (hs : ss_safe a6 a7 n D) (H : ∀ n' D' a6' a7' a8', n' ≤ n + 1 → D ≤ D' → D' ≤ D + 1 → ss_safe a6' a7' n' D' → post (fl, fc, fs, nI n', nI D', fo, fb, fp, fq, a1, a2, a3, a4, a5, a6', a7', a8', a9, a10, a11, a12)) : wX_fetch_53 post x fl fc fs (nI n) (nI D) fo fb fp fq a1 a2 a3 a4 a5 a6 a7 a8 a9 a10 a11 a12 := by
  unfold wX_fetch_53
  exact ss_dist (by omega) (fun r hr => ss_writeS hn hs (ss_dup hr hD) (fun a6' a7' h' => ss_push hD (H (n + 1) (D + 1) _ _ _ (by omega) (by omega) (by omega) h')))
theorem ss_f23 {post : St2 → Prop} {x y z : Int32} {n D : Nat} (hn : n < 560) (h1 : 1 ≤ D) (hD : D < 16) (hs : ss_safe a6 a7 n D) (H : ∀ n' D' a6' a7' a8', n' ≤ n + 1 → D ≤ D' → D' ≤ D + 1 → ss_safe a6' a7' n' D' → post (fl, fc, fs, nI n', nI D', fo, fb, fp, fq, a1, a2, a3, a4, a5, a6', a7', a8', a9, a10, a11, a12)) : wX_fetch_23 post x y z fl fc fs (nI n) (nI D) fo fb fp fq a1 a2 a3 a4 a5 a6 a7 a8 a9 a10 a11 a12 := by
  unfold wX_fetch_23
  refine br_c (fun _ => ss_f53 hn hD hs H) (fun _ => br_c (fun _ => ?_) (fun _ => ss_f53 hn hD hs H))
  exact ss_pullUp hn h1 (by omega) hs (fun n' a6' a7' a8' hn' hs' => ⟨pk_in (D - 1) 16 (by omega) (ss_m1 h1), nm_e (H n' D _ _ _ hn' (by omega) (by omega) hs')⟩)
theorem ss_fetch {post : St2 → Prop} {x y : Int32} {n D : Nat} (hn : n < 560) (h1 : 1 ≤ D) (hD : D < 16) (hs : ss_safe a6 a7 n D) (H : ∀ n' D' a6' a7' a8', n' ≤ n + 1 → D ≤ D' → D' ≤ D + 1 → ss_safe a6' a7' n' D' → post (1, fc, fs, nI n', nI D', fo, fb, fp, fq, a1, a2, a3, a4, a5, a6', a7', a8', a9, a10, a11, a12)) : wpX_fetch post (1, fc, fs, nI n, nI D, fo, fb, fp, fq, a1, a2, a3, a4, a5, a6, a7, a8, a9, a10, a11, a12) 0 x y := by
  unfold wpX_fetch
  dsimp only
  exact ss_wrA (fun r => br_c (fun _ => ss_f23 hn h1 hD hs H) (fun _ => ss_wan (br_f (by decide) (ss_f23 hn h1 hD hs H))))
theorem ss_ca65 {post : St2 → Prop} {n D t : Nat} (hk : a1 0 = nI t) (h2 : 2 ≤ t) (h6 : t ≤ 6) (hn : n < 560) (h1 : 2 ≤ D) (hD : D ≤ 16) (hs : ss_safe a6 a7 n D) (H : ∀ a6' a7', ss_safe a6' a7' (n + 1) (D - 1) → post (fl, fc, fs, nI (n + 1), nI (D - 1), fo, fb, fp, fq, a1, a2, a3, a4, a5, a6', a7', a8, a9, a10, a11, a12)) : wX_compileArithmetic_65 post 0 fl fc fs (nI n) (nI D) fo fb fp fq a1 a2 a3 a4 a5 a6 a7 a8 a9 a10 a11 a12 := by
  unfold wX_compileArithmetic_65
  refine ⟨pk_in 0 40 (by omega), ?_⟩
  rw [sb_cl0, hk]
  exact ss_writeS hn hs (ss_ari h2 h6 h1 hD) (fun a6' a7' h' => nm_r (ss_m1 (by omega)) (H _ _ h'))
theorem ss_ca27 {post : St2 → Prop} {x y z w : Int32} {n D t : Nat} (hk : a1 0 = nI t) (h2 : 2 ≤ t) (h6 : t ≤ 6) (hn : n + 3 ≤ 560) (h1 : 2 ≤ D) (hD : D ≤ 14) (hs : ss_safe a6 a7 n D) (H : ∀ n' D' a6' a7' a8', n' ≤ n + 3 → D ≤ D' + 1 → D' ≤ D + 1 → ss_safe a6' a7' n' D' → post (1, fc, fs, nI n', nI D', fo, fb, fp, fq, a1, a2, a3, a4, a5, a6', a7', a8', a9, a10, a11, a12)) : wX_compileArithmetic_27 post 0 x y z w 0 1 fc fs (nI n) (nI D) fo fb fp fq a1 a2 a3 a4 a5 a6 a7 a8 a9 a10 a11 a12 := by
  unfold wX_compileArithmetic_27
  refine ss_fetch (by omega) (by omega) (by omega) hs (fun n1 D1 b6 b7 b8 g1 g2 g3 hs1 => br_c (fun _ => ?_) (fun _ => ?_))
  · exact ss_dist (by omega) (fun r hr => ss_writeS (by omega) hs1 (ss_dup hr (by omega)) (fun c6 c7 hs2 => ss_push (by omega) (ss_ca65 hk h2 h6 (by omega) (by omega) (by omega) hs2 (fun d6 d7 hs3 => H _ _ _ _ _ (by omega) (by omega) (by omega) hs3))))
  · exact ss_fetch (by omega) (by omega) (by omega) hs1 (fun n2 D2 c6 c7 c8 k1 k2 k3 hs2 => ss_ca65 hk h2 h6 (by omega) (by omega) (by omega) hs2 (fun d6 d7 hs3 => H _ _ _ _ _ (by omega) (by omega) (by omega) hs3))
theorem ss_ca {post : St2 → Prop} {n D t : Nat} (hk : a1 0 = nI t) (h2 : 2 ≤ t) (h6 : t ≤ 6) (hn : n + 3 ≤ 560) (h1 : 2 ≤ D) (hD : D ≤ 14) (hs : ss_safe a6 a7 n D) (H : ∀ n' D' a6' a7' a8', n' ≤ n + 3 → D ≤ D' + 1 → D' ≤ D + 1 → ss_safe a6' a7' n' D' → post (1, fc, fs, nI n', nI D', fo, fb, fp, fq, a1, a2, a3, a4, a5, a6', a7', a8', a9, a10, a11, a12)) : wpX_compileArithmetic post (1, fc, fs, nI n, nI D, fo, fb, fp, fq, a1, a2, a3, a4, a5, a6, a7, a8, a9, a10, a11, a12) 0 := by
  unfold wpX_compileArithmetic
  dsimp only
  exact ⟨pk_in 0 40 (by omega), nm_e ⟨pk_in 0 40 (by omega), nm_e (br_c (fun _ => ss_ca27 hk h2 h6 hn h1 hD hs H) (fun _ => ss_ca27 hk h2 h6 hn h1 hD hs H))⟩⟩
theorem ss_s30 {post : St2 → Prop} {x : Int32} {D : Nat} (h1 : 1 ≤ D) (hD : D ≤ 16) (H : ∀ a8', post (fl, fc, fs, fe, nI D, fo, fb, fp, fq, a1, a2, a3, a4, a5, a6, a7, a8', a9, a10, a11, a12)) : wX_settle_30 post x fl fc fs fe (nI D) fo fb fp fq a1 a2 a3 a4 a5 a6 a7 a8 a9 a10 a11 a12 := by
  unfold wX_settle_30
  exact ⟨pk_in (D - 1) 16 (by omega) (ss_m1 h1), nm_e (H _)⟩
theorem ss_settle {post : St2 → Prop} {x : Int32} {n D : Nat} (hn : n + 2 ≤ 560) (h1 : 2 ≤ D) (hD : D ≤ 16) (hs : ss_safe a6 a7 n D) (H : ∀ n' D' a6' a7' a8', n' ≤ n + 2 → D ≤ D' + 1 → D' ≤ D → ss_safe a6' a7' n' D' → post (fl, fc, fs, nI n', nI D', fo, fb, fp, fq, a1, a2, a3, a4, a5, a6', a7', a8', a9, a10, a11, a12)) : wpX_settle post (fl, fc, fs, nI n, nI D, fo, fb, fp, fq, a1, a2, a3, a4, a5, a6, a7, a8, a9, a10, a11, a12) x := by
  unfold wpX_settle
  dsimp only
  refine ss_dist hD (fun r _ => br_c (fun _ => ss_s30 (by omega) hD (fun a8' => H n D _ _ _ (by omega) (by omega) (by omega) hs)) (fun _ => ?_))
  exact ss_pullUp (by omega) (by omega) hD hs (fun n' b6 b7 b8 hn' hs' => ss_writeS (by omega) hs' (ss_drp (by omega) hD) (fun c6 c7 hs2 => nm_r (ss_m1 (by omega)) (ss_s30 (by omega) (by omega) (fun c8 => H (n' + 1) (D - 1) _ _ _ (by omega) (by omega) (by omega) hs2))))
theorem ss_cs92 {post : St2 → Prop} {n D : Nat} (hn : n + 2 ≤ 560) (h1 : 2 ≤ D) (hD : D ≤ 16) (hs : ss_safe a6 a7 n D) (H : ∀ n' D' a6' a7' a8', n' ≤ n + 2 → D ≤ D' + 1 → D' ≤ D → ss_safe a6' a7' n' D' → post (fl, fc, fs, nI n', nI D', fo, fb, fp, fq, a1, a2, a3, a4, a5, a6', a7', a8', a9, a10, a11, a12)) : wX_compileStraight_92 post 0 fl fc fs (nI n) (nI D) fo fb fp fq a1 a2 a3 a4 a5 a6 a7 a8 a9 a10 a11 a12 := by
  unfold wX_compileStraight_92
  exact ss_wrA (fun r => ss_settle hn h1 hD hs H)
theorem ss_cs {post : St2 → Prop} {n D t : Nat} (hk : a1 0 = nI t) (h6 : t ≤ 6) (hn : n + 5 ≤ 560) (h1 : 3 ≤ D) (hD : D ≤ 14) (hs : ss_safe a6 a7 n D) (H : ∀ n' D' a6' a7' a8', n' ≤ n + 5 → D ≤ D' + 2 → D' ≤ D + 1 → ss_safe a6' a7' n' D' → post (1, fc, fs, nI n', nI D', fo, fb, fp, fq, a1, a2, a3, a4, a5, a6', a7', a8', a9, a10, a11, a12)) : wpX_compileStraight post (1, fc, fs, nI n, nI D, fo, fb, fp, fq, a1, a2, a3, a4, a5, a6, a7, a8, a9, a10, a11, a12) 0 := by
  unfold wpX_compileStraight
  dsimp only
  refine ⟨pk_in 0 40 (by omega), nm_r (e' := nI t) (by rw [sb_cl0]; exact hk) (pk_eq t 7 (fun z => absurd z (by omega)) (fun _ => pk_eq t 0 (fun _ => ⟨pk_in 0 40 (by omega), ?_⟩) (fun z0 => pk_eq t 1 (fun _ => ⟨pk_in 0 40 (by omega), ?_⟩) (fun z1 => ?_))))⟩
  · exact ss_writeS (by omega) hs (ss_psh (by omega)) (fun b6 b7 hs1 => ss_push (by omega) (ss_cs92 (by omega) (by omega) (by omega) hs1 (fun n' D' c6 c7 c8 g1 g2 g3 hs2 => H n' D' _ _ _ (by omega) (by omega) (by omega) hs2)))
  · exact ss_fetch (by omega) (by omega) (by omega) hs (fun n1 D1 b6 b7 b8 g1 g2 g3 hs1 => ss_cs92 (by omega) (by omega) (by omega) hs1 (fun n' D' c6 c7 c8 k1 k2 k3 hs2 => H n' D' _ _ _ (by omega) (by omega) (by omega) hs2))
  · exact ss_ca hk (by omega) h6 (by omega) (by omega) hD hs (fun n1 D1 b6 b7 b8 g1 g2 g3 hs1 => ss_cs92 (by omega) (by omega) (by omega) hs1 (fun n' D' c6 c7 c8 k1 k2 k3 hs2 => H n' D' _ _ _ (by omega) (by omega) (by omega) hs2))
theorem ss_neg : ∀ t, t < 6 → ¬ (-1 : Int32) = nI t := by decide
/-- what a PRINT of variable t compiles to -/
def ss_P7 (a6 a7 a8 : Nat → Int32) (t : Nat) : Prop := a6 0 = 1 ∧ a7 0 = nI (5 - t) ∧ a6 1 = 9 ∧ ∀ j, j < 6 → a8 j = nI j
theorem ss_cs7 {post : St2 → Prop} {t : Nat} (ht : t < 6) (h1 : a1 0 = 7) (h2 : a2 0 = nI t) (h8 : ∀ j, j < 6 → a8 j = nI j) (H : ∀ a6' a7' a8', ss_P7 a6' a7' a8' t → post (1, fc, fs, nI 2, nI 6, fo, fb, fp, fq, a1, a2, a3, a4, a5, a6', a7', a8', a9, a10, a11, a12)) : wpX_compileStraight post (1, fc, fs, nI 0, nI 6, fo, fb, fp, fq, a1, a2, a3, a4, a5, a6, a7, a8, a9, a10, a11, a12) 0 := by
  unfold wpX_compileStraight
  dsimp only
  refine ⟨pk_in 0 40 (by omega), nm_r (e' := 7) (by rw [sb_cl0]; exact h1) (br_t (by decide) ⟨pk_in 0 40 (by omega), ?_⟩)⟩
  rw [sb_cl0, h2]
  unfold wpX_fetch
  dsimp only
  refine ss_wr7 h1 (br_f (ss_neg t ht) (ss_wan (br_f (by decide) (br_t (by decide) ?_))))
  unfold wX_fetch_53
  refine ss_dist (D := 6) (by omega) (fun r hr => ?_)
  have hP : ss_P7 (upd (upd a6 0 (1 : Int32).toInt8.toInt32) 1 (9 : Int32).toInt8.toInt32) (upd (upd a7 0 r) 1 0) (upd a8 6 (9 : Int32).toInt8.toInt32) t := by
    refine ⟨?_, ?_, ?_, fun j hj => ?_⟩
    · rw [pk_un (show (0 : Nat) ≠ 1 by omega), pk_us]
      decide
    · rw [pk_un (show (0 : Nat) ≠ 1 by omega), pk_us]
      rcases hr with ⟨_, g⟩ | ⟨k, hk, e, g⟩
      · exact absurd (h8 t ht) (g t ht)
      · rw [h8 _ (by omega)] at g
        have g' := (nI_eq (by omega) (by omega)).mp g
        rw [e, show k = 5 - t by omega]
    · rw [pk_us]
      decide
    · rw [pk_un (show j ≠ 6 by omega)]
      exact h8 j hj
  exact ss_write (n := 0) (by omega) (ss_push (D := 6) (by omega) (ss_write (n := 1) (by omega) (nm_r (ss_m1 (D := 7) (by omega)) (H _ _ _ hP))))
end
end
section
section
variable {fl fc fs fe fd fo fb fp fq : Int32} {a1 a2 a3 a4 a5 a6 a7 a8 a9 a10 a11 a12 : Nat → Int32}
theorem ss_bf0 {post : Int32 → St2 → Prop} (H : post 1 (0, fc, fs, fe, fd, fo, fb, fp, fq, a1, a2, a3, a4, a5, a6, a7, a8, a9, a10, a11, a12)) : wpX_blocksFit post (0, fc, fs, fe, fd, fo, fb, fp, fq, a1, a2, a3, a4, a5, a6, a7, a8, a9, a10, a11, a12) := by
  unfold wpX_blocksFit
  dsimp only
  exact ⟨0 + 1, pk_le 0 0 (fun _ => br_t rfl H) (fun z => absurd z (by omega))⟩
theorem ss_bf7 {post : Int32 → St2 → Prop} {t : Nat} (ht : t ≤ 7) (h1 : a1 0 = nI t) (H : post 1 (1, fc, fs, fe, fd, fo, fb, fp, fq, a1, a2, a3, a4, a5, a6, a7, a8, a9, a10, a11, a12)) : wpX_blocksFit post (1, fc, fs, fe, fd, fo, fb, fp, fq, a1, a2, a3, a4, a5, a6, a7, a8, a9, a10, a11, a12) := by
  unfold wpX_blocksFit
  dsimp only
  exact ⟨0 + 1 + 1, pk_le 1 0 (fun z => absurd z (by omega)) (fun _ => ⟨pk_in 0 40 (by omega), nm_r (e' := nI t) (by rw [sb_cl0]; exact h1) (pk_eq t 8 (fun z => absurd z (by omega)) (fun _ => pk_eq t 10 (fun z => absurd z (by omega)) (fun _ => pk_eq t 9 (fun z => absurd z (by omega)) (fun _ => pk_eq t 11 (fun z => absurd z (by omega)) (fun _ => nm_r (e' := nI 1) (by decide) (pk_le 1 1 (fun _ => br_t rfl H) (fun z => absurd z (by omega))))))))⟩)⟩
theorem ss_bf31 {post : Int32 → St2 → Prop} {t : Int32} (H : ∀ a9', post 0 (1, fc, fs, fe, fd, fo, fb, fp, fq, a1, a2, a3, a4, a5, a6, a7, a8, a9', a10, a11, a12)) : wX_blocksFit_31 post (wX_blocksFit_4 post 1 fc fs fe fd fo fb fp fq (0 + 1)) 0 0 t 1 fc fs fe fd fo fb fp fq a1 a2 a3 a4 a5 a6 a7 a8 a9 a10 a11 a12 := by
  unfold wX_blocksFit_31
  exact br_f (by decide) ⟨pk_in 0 4 (by omega), nm_e (nm_r (e' := nI 1) (by decide) (nm_r (e' := nI 1) (by decide) (pk_le 1 1 (fun _ => br_f (by decide) (H _)) (fun z => absurd z (by omega)))))⟩
theorem ss_bf8 {post : Int32 → St2 → Prop} {t : Nat} (ht : 8 ≤ t) (ht' : t ≤ 11) (h1 : a1 0 = nI t) (H : ∀ a9', post 0 (1, fc, fs, fe, fd, fo, fb, fp, fq, a1, a2, a3, a4, a5, a6, a7, a8, a9', a10, a11, a12)) : wpX_blocksFit post (1, fc, fs, fe, fd, fo, fb, fp, fq, a1, a2, a3, a4, a5, a6, a7, a8, a9, a10, a11, a12) := by
  unfold wpX_blocksFit
  dsimp only
  exact ⟨0 + 1 + 1, pk_le 1 0 (fun z => absurd z (by omega)) (fun _ => ⟨pk_in 0 40 (by omega), nm_r (e' := nI t) (by rw [sb_cl0]; exact h1) (pk_eq t 8 (fun _ => ss_bf31 H) (fun _ => pk_eq t 10 (fun _ => ss_bf31 H) (fun _ => pk_eq t 9 (fun _ => br_t rfl (H _)) (fun _ => pk_eq t 11 (fun _ => br_t rfl (H _)) (fun z => absurd z (by omega))))))⟩)⟩
theorem ss_c51 {post : St2 → Prop} (H : ∀ a8', (∀ j, j < 6 → a8' j = nI j) → ∃ fu, wX_compile_70 post fu 0 fl fc fs fe (nI 6) fo fb fp fq a1 a2 a3 a4 a5 a6 a7 a8' a9 a10 a11 a12) : ∃ fu, wX_compile_51 post fu 0 fl fc fs fe 0 fo fb fp fq a1 a2 a3 a4 a5 a6 a7 a8 a9 a10 a11 a12 := by
  refine pk_loop (fun m i s => wX_compile_51 post m (nI i) fl fc fs fe (nI i) fo fb fp fq a1 a2 a3 a4 a5 a6 a7 s a9 a10 a11 a12) (fun i s => ∀ j, j < i → s j = nI j) 6 0 a8 (by omega) (fun j hj => absurd hj (by omega)) (fun m s h => ?_) (fun m i s hi h hw => ?_)
  · exact pk_le 6 6 (fun _ => H s h) (fun z => absurd z (by omega))
  · refine pk_le 6 i (fun z => absurd z (by omega)) (fun _ => ss_push (by omega) (nm_r (nI_1 i) (hw _ (fun j hj => ?_))))
    by_cases e : j = i
    · rw [e, pk_us]
      exact ss_b8 i (by omega)
    · rw [pk_un e]
      exact h j (by omega)
theorem ss_comp0 {post : St2 → Prop} (H : ∀ n D a6' a7' a8', n ≤ 30 → ss_safe a6' a7' n D → post (0, 1, 1, nI n, nI D, 0, 0, fp, fq, a1, a2, a3, a4, a5, a6', a7', a8', a9, a10, a11, a12)) : wpX_compile post (0, 0, fs, fe, fd, fo, fb, fp, fq, a1, a2, a3, a4, a5, a6, a7, a8, a9, a10, a11, a12) := by
  unfold wpX_compile
  dsimp only
  refine br_t rfl (ss_bf0 ⟨by rfl, by rfl, br_f (by decide) (ss_c51 (fun a8' h8 => ⟨0 + 1, ?_⟩))⟩)
  exact pk_le 0 0 (fun _ => ss_arrange (n := 0) (D := 6) (by omega) (by omega) (by omega) (ss_safe0 _ _) (fun n' b6 b7 b8 g hs => H n' 6 _ _ _ (by omega) hs)) (fun z => absurd z (by omega))
theorem ss_comp6 {post : St2 → Prop} {t : Nat} (ht : t ≤ 6) (h1 : a1 0 = nI t) (H : ∀ n D a6' a7' a8', n ≤ 30 → ss_safe a6' a7' n D → post (1, 1, 1, nI n, nI D, 0, 0, fp, fq, a1, a2, a3, a4, a5, a6', a7', a8', a9, a10, a11, a12)) : wpX_compile post (1, 0, fs, fe, fd, fo, fb, fp, fq, a1, a2, a3, a4, a5, a6, a7, a8, a9, a10, a11, a12) := by
  unfold wpX_compile
  dsimp only
  refine br_t rfl (ss_bf7 (by omega) h1 ⟨by rfl, by rfl, br_f (by decide) (ss_c51 (fun a8' h8 => ⟨0 + 1 + 1, ?_⟩))⟩)
  refine pk_le 1 0 (fun z => absurd z (by omega)) (fun _ => ss_bnd (by omega) h1 (br_t rfl ?_))
  refine ss_cs (n := 0) (D := 6) h1 ht (by omega) (by omega) (by omega) (ss_safe0 _ _) (fun n1 D1 b6 b7 b8 g1 g2 g3 hs1 => nm_r (e' := nI 1) (by decide) ?_)
  exact pk_le 1 1 (fun _ => ss_arrange (by omega) (by omega) (by omega) hs1 (fun n' c6 c7 c8 g hs => H n' D1 _ _ _ (by omega) hs)) (fun z => absurd z (by omega))
theorem ss_comp7 {post : St2 → Prop} {t : Nat} (ht : t < 6) (h1 : a1 0 = 7) (h2 : a2 0 = nI t) (H : ∀ a6' a7' a8', ss_P7 a6' a7' a8' t → post (1, 1, 1, nI 2, nI 6, 0, 0, fp, fq, a1, a2, a3, a4, a5, a6', a7', a8', a9, a10, a11, a12)) : wpX_compile post (1, 0, fs, fe, fd, fo, fb, fp, fq, a1, a2, a3, a4, a5, a6, a7, a8, a9, a10, a11, a12) := by
  unfold wpX_compile
  dsimp only
  refine br_t rfl (ss_bf7 (t := 7) (by omega) h1 ⟨by rfl, by rfl, br_f (by decide) (ss_c51 (fun a8' h8 => ⟨0 + 1 + 1, ?_⟩))⟩)
  refine pk_le 1 0 (fun z => absurd z (by omega)) (fun _ => ss_bnd (k := 7) (by omega) h1 (br_t rfl ?_))
  refine ss_cs7 ht h1 h2 h8 (fun b6 b7 b8 hp => nm_r (e' := nI 1) (by decide) ?_)
  exact pk_le 1 1 (fun _ => ss_arrangeI hp.2.2.2 (H _ _ _ hp)) (fun z => absurd z (by omega))
theorem ss_comp8 {post : St2 → Prop} {t : Nat} (ht : 8 ≤ t) (ht' : t ≤ 11) (h1 : a1 0 = nI t) (H : ∀ a9', post (1, 1, 0, fe, fd, fo, fb, fp, fq, a1, a2, a3, a4, a5, a6, a7, a8, a9', a10, a11, a12)) : wpX_compile post (1, 0, fs, fe, fd, fo, fb, fp, fq, a1, a2, a3, a4, a5, a6, a7, a8, a9, a10, a11, a12) := by
  unfold wpX_compile
  dsimp only
  exact br_t rfl (ss_bf8 ht ht' h1 (fun a9' => ⟨by rfl, by rfl, br_t rfl (H a9')⟩))
end
end
section
section
variable {fl fc fs fe fd fo fb fp fq : Int32} {a1 a2 a3 a4 a5 a6 a7 a8 a9 a10 a11 a12 : Nat → Int32}
theorem ss_pull {post : St2 → Prop} {x : Int32} {m k : Nat} (hk : k < m) (hm : m ≤ 16) (hx : nI m - 1 - x = nI k) (H : ∀ a11', post (fl, fc, fs, fe, fd, fo, fb, nI m, fq, a1, a2, a3, a4, a5, a6, a7, a8, a9, a10, a11', a12)) : wpX_pull post (fl, fc, fs, fe, fd, fo, fb, nI m, fq, a1, a2, a3, a4, a5, a6, a7, a8, a9, a10, a11, a12) x := by
  unfold wpX_pull
  dsimp only
  refine ⟨pk_in k 16 (by omega) hx, nm_e (nm_r hx ?_)⟩
  refine pk_loop (fun n i s => wX_pull_23 post (a11 (nI m - 1 - x).toNatClampNeg) fl fc fs fe fd fo fb (nI m) fq n (nI i) a1 a2 a3 a4 a5 a6 a7 a8 a9 a10 s a12) (fun _ _ => True) (m - 1) k a11 (by omega) trivial (fun n s _ => ?_) (fun n i s hi _ hw => ?_)
  · exact pk_le (m - 1) (m - 1) (fun _ => ⟨pk_in (m - 1) 16 (by omega) (ss_m1 (by omega)), nm_e (H _)⟩) (fun z => absurd z (by omega)) (ss_m1 (by omega))
  · exact pk_le (m - 1) i (fun z => absurd z (by omega)) (fun _ => ⟨pk_in (i + 1) 16 (by omega) (nI_1 i), pk_in i 16 (by omega), nm_e (nm_r (nI_1 i) (hw _ trivial))⟩) (ss_m1 (by omega))
theorem ss_compute {post : Int32 → Prop} {x y z : Int32} (H : ∀ r, post r) : wpX_compute post (fl, fc, fs, fe, fd, fo, fb, fp, fq, a1, a2, a3, a4, a5, a6, a7, a8, a9, a10, a11, a12) x y z := by
  unfold wpX_compute
  dsimp only
  exact br_c (fun _ => H _) (fun _ => br_c (fun _ => H _) (fun _ => br_c (fun _ => H _) (fun _ => br_c (fun _ => H _) (fun _ => br_c (fun _ => H _) (fun _ => H _)))))
theorem ss_perform {post : Int32 → St2 → Prop} {i m m' : Nat} (hi : i < 560) (ho : ss_ok (a6 i) (a7 i) m m') (H : ∀ a11', post (nI (i + 1)) (fl, fc, fs, fe, fd, fo, fb, nI m', fq, a1, a2, a3, a4, a5, a6, a7, a8, a9, a10, a11', a12)) : wpX_perform post (fl, fc, fs, fe, fd, fo, fb, nI m, fq, a1, a2, a3, a4, a5, a6, a7, a8, a9, a10, a11, a12) (nI i) := by
  unfold wpX_perform
  dsimp only
  refine ⟨pk_in i 560 hi, nm_r (e' := a6 i) (by rw [nI_clamp (by omega)]) ⟨pk_in i 560 hi, nm_r (e' := a7 i) (by rw [nI_clamp (by omega)]) (nm_r (nI_1 i) ?_)⟩⟩
  rcases ho with ⟨e, h1, h2⟩ | ⟨e, h1, h2, k, hk, hx⟩ | ⟨e, h1, h2, k, hk, hx⟩ | ⟨e, h1, h2⟩ | ⟨⟨t, t2, t6, e⟩, h1, h2, h3⟩
  · subst h2
    rw [e]
    exact br_t (by decide) (br_t rfl ⟨pk_in m 16 h1, nm_e (nm_r (nI_1 m) (H _))⟩)
  · subst h2
    rw [e]
    exact br_t (by decide) (br_f (by decide) (br_t rfl ⟨pk_in k 16 hk hx, pk_in m 16 h1, nm_e (nm_r (nI_1 m) (H _))⟩))
  · subst h2
    rw [e]
    exact br_f (by decide) (br_t (by decide) (br_f (by decide) (br_f (by decide) (br_t rfl (ss_pull hk h1 hx (fun a => H a))))))
  · have hq : nI m - 1 = nI m' := by rw [ss_m1 (by omega), show m - 1 = m' by omega]
    rw [e]
    exact br_f (by decide) (br_t (by decide) (br_f (by decide) (br_f (by decide) (br_f (by decide) (br_f (by decide) (nm_r hq (br_f (by decide) (br_f (by decide) (H _)))))))))
  · have hq : nI m - 1 = nI m' := by rw [ss_m1 (by omega), show m - 1 = m' by omega]
    rw [e]
    exact pk_lt t 2 (fun z => absurd z (by omega)) (fun _ => pk_lt 6 t (fun z => absurd z (by omega)) (fun _ => nm_r hq ⟨pk_in (m' - 1) 16 (by omega) (ss_m1 h2), pk_in m' 16 (by omega), ss_compute (fun r => ⟨pk_in (m' - 1) 16 (by omega) (ss_m1 h2), nm_e (H _)⟩)⟩))
theorem ss_r83 {post : Int32 → St2 → Prop} (H : ∀ a5', post fq (fl, fc, fs, fe, fd, fo, fb, fp, fq, a1, a2, a3, a4, a5', a6, a7, a8, a9, a10, a11, a12)) : ∃ fu, wX_run_83 post fl fc fs fe fd fo fb fp fq fu 0 a1 a2 a3 a4 a5 a6 a7 a8 a9 a10 a11 a12 := by
  refine pk_loop (fun n i s => wX_run_83 post fl fc fs fe fd fo fb fp fq n (nI i) a1 a2 a3 a4 s a6 a7 a8 a9 a10 a11 a12) (fun _ _ => True) 6 0 a5 (by omega) trivial (fun n s _ => ?_) (fun n i s hi _ hw => ?_)
  · exact pk_le 6 6 (fun _ => H _) (fun z => absurd z (by omega))
  · exact pk_le 6 i (fun z => absurd z (by omega)) (fun _ => ⟨pk_in i 16 (by omega), pk_in i 6 hi, nm_e (nm_r (nI_1 i) (hw _ trivial))⟩)
theorem ss_r55 {post : Int32 → St2 → Prop} {n M : Nat} (hn : n ≤ 560) (hs : ss_safe a6 a7 n M) (H : ∀ p' a5' a11', post fq (fl, fc, fs, nI n, fd, fo, fb, p', fq, a1, a2, a3, a4, a5', a6, a7, a8, a9, a10, a11', a12)) : ∃ fu, wX_run_55 post fu 0 0 fl fc fs (nI n) fd fo fb 6 fq a1 a2 a3 a4 a5 a6 a7 a8 a9 a10 a11 a12 := by
  obtain ⟨f, h0, hM, hf⟩ := hs
  have W : ∃ fu, wX_run_55 post fu (nI 0) (nI 0) fl fc fs (nI n) fd fo fb (nI (f 0)) fq a1 a2 a3 a4 a5 a6 a7 a8 a9 a10 a11 a12 := by
    refine pk_loop (fun m i s => wX_run_55 post m (nI i) (nI i) fl fc fs (nI n) fd fo fb (nI (f i)) fq a1 a2 a3 a4 a5 a6 a7 a8 a9 a10 s a12) (fun _ _ => True) n 0 a11 (by omega) trivial (fun m s _ => ?_) (fun m i s hi _ hw => ?_)
    · exact pk_le 90000 n (fun z => absurd z (by omega)) (fun _ => pk_le n n (fun _ => ss_r83 (fun a5' => H _ _ _)) (fun z => absurd z (by omega)))
    · exact pk_le 90000 i (fun z => absurd z (by omega)) (fun _ => pk_le n i (fun z => absurd z (by omega)) (fun _ => ss_perform (by omega) (hf i hi) (fun a11' => nm_r (nI_1 i) (hw _ trivial))))
  rw [h0] at W
  exact W
theorem ss_r16 {post : Int32 → St2 → Prop} (H : ∀ a11', (∀ j, j < 6 → a11' j = a5 j) → ∃ fu, wX_run_55 post fu 0 0 fl fc fs fe fd fo fb 6 0 a1 a2 a3 a4 a5 a6 a7 a8 a9 a10 a11' a12) : ∃ fu, wX_run_16 post fl fc fs fe fd fo fb fp fq fu 0 a1 a2 a3 a4 a5 a6 a7 a8 a9 a10 a11 a12 := by
  refine pk_loop (fun n i s => wX_run_16 post fl fc fs fe fd fo fb fp fq n (nI i) a1 a2 a3 a4 a5 a6 a7 a8 a9 a10 s a12) (fun i s => ∀ j, j < i → s j = a5 j) 6 0 a11 (by omega) (fun j hj => absurd hj (by omega)) (fun n s h => ?_) (fun n i s hi h hw => ?_)
  · exact pk_le 6 6 (fun _ => H s h) (fun z => absurd z (by omega))
  · refine pk_le 6 i (fun z => absurd z (by omega)) (fun _ => ⟨pk_in i 6 hi, pk_in i 16 (by omega), nm_r (e' := upd s i (a5 i)) (by rw [nI_clamp (by omega)]) (nm_r (nI_1 i) (hw _ (fun j hj => ?_)))⟩)
    by_cases e : j = i
    · rw [e, pk_us]
    · rw [pk_un e]
      exact h j (by omega)
theorem ss_cmp1 {post : St2 → Prop} (H : post (fl, 1, fs, fe, fd, fo, fb, fp, fq, a1, a2, a3, a4, a5, a6, a7, a8, a9, a10, a11, a12)) : wpX_compile post (fl, 1, fs, fe, fd, fo, fb, fp, fq, a1, a2, a3, a4, a5, a6, a7, a8, a9, a10, a11, a12) := by
  unfold wpX_compile
  dsimp only
  exact br_f (by decide) H
theorem ss_runS {post : Int32 → St2 → Prop} {n M : Nat} (hn : n ≤ 560) (hs : ss_safe a6 a7 n M) (H : ∀ p' a5' a11', post 0 (fl, 1, 1, nI n, fd, fo, fb, p', 0, a1, a2, a3, a4, a5', a6, a7, a8, a9, a10, a11', a12)) : wpX_run post (fl, 1, 1, nI n, fd, fo, fb, fp, fq, a1, a2, a3, a4, a5, a6, a7, a8, a9, a10, a11, a12) := by
  unfold wpX_run
  dsimp only
  exact ss_cmp1 (br_f (show ¬ (1 : Int32) = 0 by decide) (ss_r16 (fun b11 _ => ss_r55 hn hs H)))
theorem ss_runU {post : Int32 → St2 → Prop} (H : post (-3) (fl, 1, 0, fe, fd, fo, fb, fp, fq, a1, a2, a3, a4, a5, a6, a7, a8, a9, a10, a11, a12)) : wpX_run post (fl, 1, 0, fe, fd, fo, fb, fp, fq, a1, a2, a3, a4, a5, a6, a7, a8, a9, a10, a11, a12) := by
  unfold wpX_run
  dsimp only
  exact ss_cmp1 (br_t rfl H)
theorem ss_pf1 {post : Int32 → St2 → Prop} {t : Nat} (ht : t < 6) (h6 : a6 0 = 1) (h7 : a7 0 = nI (5 - t)) (H : post (nI 1) (fl, fc, fs, fe, fd, fo, fb, nI 7, fq, a1, a2, a3, a4, a5, a6, a7, a8, a9, a10, upd a11 6 (a11 t), a12)) : wpX_perform post (fl, fc, fs, fe, fd, fo, fb, nI 6, fq, a1, a2, a3, a4, a5, a6, a7, a8, a9, a10, a11, a12) (nI 0) := by
  have hx : nI 6 - 1 - nI (5 - t) = nI t := by rw [ss_mk (by omega), show 6 - 1 - (5 - t) = t by omega]
  unfold wpX_perform
  dsimp only
  refine ⟨pk_in 0 560 (by omega), nm_r (e' := 1) (by rw [nI_clamp (by omega)]; exact h6) ⟨pk_in 0 560 (by omega), nm_r (e' := nI (5 - t)) (by rw [nI_clamp (by omega)]; exact h7) (nm_r (nI_1 0) ?_)⟩⟩
  exact br_t (by decide) (br_f (by decide) (br_t rfl ⟨pk_in t 16 (by omega) hx, pk_in 6 16 (by omega), nm_r (by rw [hx, nI_clamp (by omega), nI_clamp (by omega)]) (nm_r (nI_1 6) H)⟩))
theorem ss_pf9 {post : Int32 → St2 → Prop} (h6 : a6 1 = 9) (H : post (nI 2) (fl, fc, fs, fe, fd, fo, fb, nI 6, 1, a1, a2, a3, a4, a5, a6, a7, a8, a9, a10, a11, upd a12 0 (a11 6))) : wpX_perform post (fl, fc, fs, fe, fd, fo, fb, nI 7, 0, a1, a2, a3, a4, a5, a6, a7, a8, a9, a10, a11, a12) (nI 1) := by
  unfold wpX_perform
  dsimp only
  refine ⟨pk_in 1 560 (by omega), nm_r (e' := 9) (by rw [nI_clamp (by omega)]; exact h6) ⟨pk_in 1 560 (by omega), nm_e (nm_r (nI_1 1) ?_)⟩⟩
  refine br_f (by decide) (br_t (by decide) (br_f (by decide) (br_f (by decide) (br_f (by decide) (br_f (by decide) (nm_r (ss_m1 (D := 7) (by omega)) (br_t rfl ⟨pk_in 6 16 (by omega), ?_⟩)))))))
  unfold wpX_print
  dsimp only
  exact pk_le 64 0 (fun z => absurd z (by omega)) (fun _ => ⟨pk_in 0 64 (by omega), nm_r (by rw [sb_cl0, nI_clamp (by omega)]) (nm_r (e' := 1) (by decide) (br_f (by decide) H))⟩)
theorem ss_run7 {post : Int32 → St2 → Prop} {t : Nat} (ht : t < 6) (hp : ss_P7 a6 a7 a8 t) (H : ∀ a5' a11' a12', a12' 0 = a5 t → post 1 (fl, 1, 1, nI 2, fd, fo, fb, nI 6, 1, a1, a2, a3, a4, a5', a6, a7, a8, a9, a10, a11', a12')) : wpX_run post (fl, 1, 1, nI 2, fd, fo, fb, fp, fq, a1, a2, a3, a4, a5, a6, a7, a8, a9, a10, a11, a12) := by
  unfold wpX_run
  dsimp only
  refine ss_cmp1 (br_f (show ¬ (1 : Int32) = 0 by decide) (ss_r16 (fun b11 hb => ⟨0 + 1 + 1 + 1, ?_⟩)))
  refine pk_le 90000 0 (fun z => absurd z (by omega)) (fun _ => pk_le 2 0 (fun z => absurd z (by omega)) (fun _ => ss_pf1 ht hp.1 hp.2.1 (nm_r (nI_1 0) ?_)))
  refine pk_le 90000 1 (fun z => absurd z (by omega)) (fun _ => pk_le 2 1 (fun z => absurd z (by omega)) (fun _ => ss_pf9 hp.2.2.1 (nm_r (nI_1 1) ?_)))
  refine pk_le 90000 2 (fun z => absurd z (by omega)) (fun _ => pk_le 2 2 (fun _ => ss_r83 (fun a5' => H _ _ _ ?_)) (fun z => absurd z (by omega)))
  rw [pk_us, pk_us]
  exact hb t ht
end
end
section
def ss_in (x : Int32) : Prop := ¬ x < 0 ∧ x ≤ 5
/-- the statement of kind t fits -/
def ss_G (t : Nat) (a b c : Int32) : Prop := (t = 9 ∨ t = 11 ∨ ss_in a) ∧ (1 ≤ t → t ≤ 6 → ss_in b) ∧ (2 ≤ t → t ≤ 6 → ss_in c)
def ss_F (k a b c : Int32) : Prop := ∃ t, t ≤ 11 ∧ k = nI t ∧ ss_G t a b c
theorem ss_Fn {t : Nat} {a b c : Int32} (ht : t ≤ 11) (h : ¬ ss_G t a b c) : ¬ ss_F (nI t) a b c := by
  intro ⟨j, hj, e, g⟩
  have e' := (nI_eq (by omega) (by omega)).mp e
  rw [e'] at h
  exact h g
/-- the variables behind put(v, w) -/
def ss_V (v w : Int32) (f : Nat → Int32) : Prop := ∀ j, j < 6 → (nI j = v → f j = w) ∧ (¬ nI j = v → f j = 0)
theorem ss_V0 {v w : Int32} (h : ¬ ss_in v) : ss_V v w (fun _ => 0) := by
  intro j hj
  refine ⟨fun e => absurd ?_ h, fun _ => rfl⟩
  rw [← e]
  exact ⟨nI_pos (by omega), nI_le (b := 5) (by omega) (by omega)⟩
theorem ss_V1 {v w : Int32} (h : ss_in v) : ss_V v w (upd (fun _ => 0) v.toNatClampNeg w) := by
  obtain ⟨i, hi, e⟩ := nI_of2 (n := 5) (by rfl) h.1 h.2
  subst e
  rw [nI_clamp (by omega)]
  intro j hj
  constructor
  · intro e
    rw [(nI_eq (by omega) (by omega)).mp e, pk_us]
  · intro e
    rw [pk_un (fun z => e (by rw [z]))]
theorem ss_inL {post : Int32 → Prop} {x : Int32} (H1 : ss_in x → post 1) (H0 : ¬ ss_in x → post 0) : wpL_in post () x := by
  unfold wpL_in
  exact br_c (fun g => H0 (fun z => z.1 g)) (fun g => br_c (fun h => H0 (fun z => Int32.not_lt.mpr z.2 h)) (fun h => H1 ⟨g, Int32.not_lt.mp h⟩))
theorem ss_nb0 : narrow .boolean (.int 0) = .int 0 := by rfl
theorem ss_nb1 : narrow .boolean (.int 1) = .int 1 := by rfl
section
variable {fl fc fs fe fd fo fb fp fq : Int32} {a1 a2 a3 a4 a5 a6 a7 a8 a9 a10 a11 a12 : Nat → Int32}
theorem ss_put {post : Int32 → St2 → Prop} {v w : Int32} (H1 : ss_in v → post 1 (fl, fc, fs, fe, fd, fo, fb, fp, fq, a1, a2, a3, a4, upd a5 v.toNatClampNeg w, a6, a7, a8, a9, a10, a11, a12)) (H0 : ¬ ss_in v → post 0 (fl, fc, fs, fe, fd, fo, fb, fp, fq, a1, a2, a3, a4, a5, a6, a7, a8, a9, a10, a11, a12)) : wpX_put post (fl, fc, fs, fe, fd, fo, fb, fp, fq, a1, a2, a3, a4, a5, a6, a7, a8, a9, a10, a11, a12) v w := by
  unfold wpX_put
  dsimp only
  refine br_c (fun g => H0 (fun z => z.1 g)) (fun g => br_c (fun h => ⟨?_, nm_e (H1 ⟨g, h⟩)⟩) (fun h => H0 (fun z => h z.2)))
  obtain ⟨j, hj, e⟩ := nI_of2 (n := 5) (by rfl) g h
  exact pk_in j 6 (by omega) e
theorem ss_add139 {post : Int32 → St2 → Prop} {x z : Int32} (H : ∀ a3' a4', post 1 (1, 0, fs, fe, fd, fo, fb, fp, fq, a1, a2, a3', a4', a5, a6, a7, a8, a9, a10, a11, a12)) : wX_add_139 post x z 0 0 fc fs fe fd fo fb fp fq a1 a2 a3 a4 a5 a6 a7 a8 a9 a10 a11 a12 := by
  unfold wX_add_139
  exact ⟨pk_in 0 40 (by omega), nm_e ⟨pk_in 0 40 (by omega), nm_e (nm_r (e' := 1) (by decide) (H _ _))⟩⟩
theorem ss_add121 {post : Int32 → St2 → Prop} {k a b c z : Int32} (H : ∀ a2' a3' a4', a2' 0 = z → post 1 (1, 0, fs, fe, fd, fo, fb, fp, fq, a1, a2', a3', a4', a5, a6, a7, a8, a9, a10, a11, a12)) : wX_add_121 post k a b c z 0 0 fc fs fe fd fo fb fp fq a1 a2 a3 a4 a5 a6 a7 a8 a9 a10 a11 a12 := by
  unfold wX_add_121
  refine ⟨pk_in 0 40 (by omega), nm_r (e' := upd a2 0 z) (by rw [sb_cl0]) (br_c (fun _ => ss_add139 (H _ · · pk_us)) (fun _ => ss_add139 (H _ · · pk_us)))⟩
theorem ss_add93 {post : Int32 → St2 → Prop} {a b c : Int32} {t : Nat} (ht : t ≤ 11) (H : ∀ a1' a2' a3' a4', a1' 0 = nI t → (t = 7 → a2' 0 = a) → post 1 (1, 0, fs, fe, fd, fo, fb, fp, fq, a1', a2', a3', a4', a5, a6, a7, a8, a9, a10, a11, a12)) : wX_add_93 post (nI t) a b c 0 fc fs fe fd fo fb fp fq a1 a2 a3 a4 a5 a6 a7 a8 a9 a10 a11 a12 := by
  unfold wX_add_93
  refine ⟨pk_in 0 40 (by omega), nm_r (e' := upd a1 0 (nI t)) (by rw [sb_cl0, ss_b8 t (by omega)]) (pk_eq t 0 (fun z => ss_add121 (fun a2' a3' a4' g => H _ _ _ _ pk_us (fun e => absurd e (by omega)))) (fun z => ss_add121 (fun a2' a3' a4' g => H _ _ _ _ pk_us (fun _ => g))))⟩
theorem ss_add69 {post : Int32 → St2 → Prop} {a b c : Int32} {t : Nat} (ht : t ≤ 11) (ha : t = 9 ∨ t = 11 ∨ ss_in a) (hb : 1 ≤ t → t ≤ 6 → ss_in b) (H1 : ss_G t a b c → ∀ a1' a2' a3' a4', a1' 0 = nI t → (t = 7 → a2' 0 = a) → post 1 (1, 0, fs, fe, fd, fo, fb, fp, fq, a1', a2', a3', a4', a5, a6, a7, a8, a9, a10, a11, a12)) (H0 : ¬ ss_G t a b c → post (-1) (0, fc, fs, fe, fd, fo, fb, fp, fq, a1, a2, a3, a4, a5, a6, a7, a8, a9, a10, a11, a12)) : wX_add_69 post (nI t) a b c 0 fc fs fe fd fo fb fp fq a1 a2 a3 a4 a5 a6 a7 a8 a9 a10 a11 a12 := by
  unfold wX_add_69
  refine pk_lt t 2 (fun z => ss_add93 ht (H1 ⟨ha, hb, fun y => absurd y (by omega)⟩)) (fun z => pk_lt 6 t (fun y => ss_add93 ht (H1 ⟨ha, hb, fun _ y' => absurd y' (by omega)⟩)) (fun y => ?_))
  exact br_c (fun g => H0 (fun q => (q.2.2 z y).1 g)) (fun g => br_c (fun h => ss_add93 ht (H1 ⟨ha, hb, fun _ _ => ⟨g, h⟩⟩)) (fun h => H0 (fun q => h (q.2.2 z y).2)))
theorem ss_add47 {post : Int32 → St2 → Prop} {a b c : Int32} {t : Nat} (ht : t ≤ 11) (ha : t = 9 ∨ t = 11 ∨ ss_in a) (H1 : ss_G t a b c → ∀ a1' a2' a3' a4', a1' 0 = nI t → (t = 7 → a2' 0 = a) → post 1 (1, 0, fs, fe, fd, fo, fb, fp, fq, a1', a2', a3', a4', a5, a6, a7, a8, a9, a10, a11, a12)) (H0 : ¬ ss_G t a b c → post (-1) (0, fc, fs, fe, fd, fo, fb, fp, fq, a1, a2, a3, a4, a5, a6, a7, a8, a9, a10, a11, a12)) : wX_add_47 post (nI t) a b c 0 fc fs fe fd fo fb fp fq a1 a2 a3 a4 a5 a6 a7 a8 a9 a10 a11 a12 := by
  unfold wX_add_47
  refine pk_lt t 1 (fun z => ss_add69 ht ha (fun y => absurd y (by omega)) H1 H0) (fun z => pk_lt 6 t (fun y => ss_add69 ht ha (fun _ y' => absurd y' (by omega)) H1 H0) (fun y => ?_))
  exact br_c (fun g => H0 (fun q => (q.2.1 z y).1 g)) (fun g => br_c (fun h => ss_add69 ht ha (fun _ _ => ⟨g, h⟩) H1 H0) (fun h => H0 (fun q => h (q.2.1 z y).2)))
theorem ss_add {post : Int32 → St2 → Prop} {k a b c : Int32} (H1 : ∀ t, t ≤ 11 → k = nI t → ss_G t a b c → ∀ a1' a2' a3' a4', a1' 0 = nI t → (t = 7 → a2' 0 = a) → post 1 (1, 0, fs, fe, fd, fo, fb, fp, fq, a1', a2', a3', a4', a5, a6, a7, a8, a9, a10, a11, a12)) (H0 : ¬ ss_F k a b c → post (-1) (0, fc, fs, fe, fd, fo, fb, fp, fq, a1, a2, a3, a4, a5, a6, a7, a8, a9, a10, a11, a12)) : wpX_add post (0, fc, fs, fe, fd, fo, fb, fp, fq, a1, a2, a3, a4, a5, a6, a7, a8, a9, a10, a11, a12) k a b c := by
  unfold wpX_add
  dsimp only
  refine br_t (by decide) (br_c (fun g => H0 ?_) (fun g => br_c (fun h => ?_) (fun h => H0 ?_)))
  · intro ⟨j, hj, e, _⟩
    rw [e] at g
    exact nI_pos (by omega) g
  · obtain ⟨t, ht, e⟩ := nI_of2 (n := 11) (by rfl) g h
    subst e
    have K := fun ha => ss_add47 (post := post) (fc := fc) (fs := fs) (fe := fe) (fd := fd) (fo := fo) (fb := fb) (fp := fp) (fq := fq) (a1 := a1) (a2 := a2) (a3 := a3) (a4 := a4) (a5 := a5) (a6 := a6) (a7 := a7) (a8 := a8) (a9 := a9) (a10 := a10) (a11 := a11) (a12 := a12) (a := a) (b := b) (c := c) ht ha (fun hG => H1 t ht rfl hG) (fun hG => H0 (ss_Fn ht hG))
    refine pk_eq t 9 (fun z => K (Or.inl z)) (fun z9 => pk_eq t 11 (fun z => K (Or.inr (Or.inl z))) (fun z11 => ?_))
    have N : ¬ ss_in a → ¬ ss_F (nI t) a b c := fun hn => ss_Fn ht (fun q => by
      rcases q.1 with z | z | z
      · exact z9 z
      · exact z11 z
      · exact hn z)
    exact br_c (fun g' => H0 (N (fun z => z.1 g'))) (fun g' => br_c (fun h' => K (Or.inr (Or.inr ⟨g', h'⟩))) (fun h' => H0 (N (fun z => h' z.2))))
  · intro ⟨j, hj, e, _⟩
    rw [e] at h
    exact h (nI_le (b := 11) hj (by omega))
theorem ss_out0 {post : Int32 → Prop} (H : post 0) : wpX_output post (fl, fc, fs, fe, fd, fo, fb, fp, 0, a1, a2, a3, a4, a5, a6, a7, a8, a9, a10, a11, a12) 0 := by
  unfold wpX_output
  dsimp only
  exact br_f (by decide) (br_t (by decide) H)
theorem ss_out1 {post : Int32 → Prop} (H : post (a12 0)) : wpX_output post (fl, fc, fs, fe, fd, fo, fb, fp, 1, a1, a2, a3, a4, a5, a6, a7, a8, a9, a10, a11, a12) 0 := by
  unfold wpX_output
  dsimp only
  exact br_f (by decide) (br_f (by decide) (br_t (by decide) ⟨pk_in 0 64 (by omega), by rw [sb_cl0]; exact H⟩))
theorem ss_ret0 {post : Int32 → St2 → Prop} (H : post (-1) (0, fc, fs, fe, fd, fo, fb, fp, fq, a1, a2, a3, a4, a5, a6, a7, a8, a9, a10, a11, a12)) : wpX_retract post (0, fc, fs, fe, fd, fo, fb, fp, fq, a1, a2, a3, a4, a5, a6, a7, a8, a9, a10, a11, a12) := by
  unfold wpX_retract
  dsimp only
  exact br_t rfl H
theorem ss_ret1 {post : Int32 → St2 → Prop} (H : post 0 (0, 0, fs, fe, fd, fo, fb, fp, fq, a1, a2, a3, a4, a5, a6, a7, a8, a9, a10, a11, a12)) : wpX_retract post (1, fc, fs, fe, fd, fo, fb, fp, fq, a1, a2, a3, a4, a5, a6, a7, a8, a9, a10, a11, a12) := by
  unfold wpX_retract
  dsimp only
  exact br_f (by decide) (nm_r (e' := 0) (by decide) H)
/-- the last two checks, where the statement did not fit -/
theorem ss_l262A {post : Int32 → St0 → Prop} {mc ms kc ks : Nat} {z : Int32} (hp : post 1 ()) : wL_lawOf_262 post mc ms 0 z z kc ks 0 fc fs fe fd fo fb fp fq a1 a2 a3 a4 a5 a6 a7 a8 a9 a10 a11 a12 := by
  unfold wL_lawOf_262
  exact br_t rfl (ss_ret0 (br_t rfl (br_t rfl hp)))
theorem ss_l262B {post : Int32 → St0 → Prop} {mc ms kc ks : Nat} {z : Int32} (hp : post 1 ()) : wL_lawOf_262 post mc ms 1 z z kc ks 1 fc fs fe fd fo fb fp fq a1 a2 a3 a4 a5 a6 a7 a8 a9 a10 a11 a12 := by
  unfold wL_lawOf_262
  exact br_t rfl (ss_ret1 (br_f (by decide) (br_t rfl hp)))
theorem ss_l234A {post : Int32 → St0 → Prop} {mc ms kc ks : Nat} {a v w z : Int32} (hp : post 1 ()) : wL_lawOf_234 post mc ms a v w 0 0 z z kc ks 0 fc fs fe fd fo fb fp 0 a1 a2 a3 a4 a5 a6 a7 a8 a9 a10 a11 a12 := by
  unfold wL_lawOf_234
  exact br_t rfl (ss_out0 (br_t rfl (ss_l262A hp)))
theorem ss_l234B {post : Int32 → St0 → Prop} {mc ms kc ks : Nat} {a v w z : Int32} (hp : post 1 ()) : wL_lawOf_234 post mc ms a v w 1 0 z z kc ks 1 fc fs fe fd fo fb fp 0 a1 a2 a3 a4 a5 a6 a7 a8 a9 a10 a11 a12 := by
  unfold wL_lawOf_234
  exact br_t rfl (ss_out0 (br_t rfl (ss_l262B hp)))
theorem ss_l234C {post : Int32 → St0 → Prop} {mc ms kc ks : Nat} {a v w z : Int32} (hp : post 1 ()) (h1 : a = v → a12 0 = w) (h0 : ¬ a = v → a12 0 = 0) : wL_lawOf_234 post mc ms a v w 1 1 z z kc ks 1 fc fs fe fd fo fb fp 1 a1 a2 a3 a4 a5 a6 a7 a8 a9 a10 a11 a12 := by
  unfold wL_lawOf_234
  refine br_t rfl (ss_out1 (br_f (by decide) (br_c (fun e => ?_) (fun e => ?_))))
  · rw [h1 e]
    exact ss_l262B hp
  · rw [h0 e]
    exact ss_l262B hp
theorem ss_l192A {post : Int32 → St0 → Prop} {mc ms kc ks : Nat} {a v w : Int32} (hp : post 1 ()) : wL_lawOf_192 post mc ms a v w 0 1 0 (-1) (-1) kc ks 0 0 fs fe fd fo fb fp fq a1 a2 a3 a4 a5 a6 a7 a8 a9 a10 a11 a12 := by
  unfold wL_lawOf_192
  refine br_t rfl ?_
  unfold wpX_sound
  dsimp only
  exact ss_comp0 (fun n D b6 b7 b8 hn hs => ⟨ss_nb1, br_t rfl (ss_runS (by omega) hs (fun p' b5 b11 => br_f (by decide) (br_t rfl (ss_l234A hp))))⟩)
theorem ss_l192B {post : Int32 → St0 → Prop} {mc ms kc ks t : Nat} {a v w : Int32} (hp : post 1 ()) (ht : t ≤ 6) (h1 : a1 0 = nI t) : wL_lawOf_192 post mc ms a v w 1 1 0 1 1 kc ks 1 0 fs fe fd fo fb fp fq a1 a2 a3 a4 a5 a6 a7 a8 a9 a10 a11 a12 := by
  unfold wL_lawOf_192
  refine br_t rfl ?_
  unfold wpX_sound
  dsimp only
  exact ss_comp6 ht h1 (fun n D b6 b7 b8 hn hs => ⟨ss_nb1, br_t rfl (ss_runS (by omega) hs (fun p' b5 b11 => br_f (by decide) (br_t rfl (ss_l234B hp))))⟩)
theorem ss_l192C {post : Int32 → St0 → Prop} {mc ms kc ks i : Nat} {a v w : Int32} (hp : post 1 ()) (hi : i < 6) (ha : a = nI i) (h1 : a1 0 = 7) (h2 : a2 0 = nI i) (h5 : ss_V v w a5) : wL_lawOf_192 post mc ms a v w 1 1 1 1 1 kc ks 1 0 fs fe fd fo fb fp fq a1 a2 a3 a4 a5 a6 a7 a8 a9 a10 a11 a12 := by
  unfold wL_lawOf_192
  refine br_t rfl ?_
  unfold wpX_sound
  dsimp only
  exact ss_comp7 hi h1 h2 (fun b6 b7 b8 hq => ⟨ss_nb1, br_t rfl (ss_run7 hi hq (fun b5 b11 b12 hb => br_f (by decide) (br_f (by decide) (ss_l234C hp (fun e => hb.trans ((h5 i hi).1 (ha.symm.trans e))) (fun e => hb.trans ((h5 i hi).2 (fun q => e (ha.trans q))))))))⟩)
theorem ss_l192D {post : Int32 → St0 → Prop} {mc ms kc ks t : Nat} {a v w : Int32} (hp : post 1 ()) (ht : 8 ≤ t) (ht' : t ≤ 11) (h1 : a1 0 = nI t) : wL_lawOf_192 post mc ms a v w 1 0 0 1 1 kc ks 1 0 fs fe fd fo fb fp 0 a1 a2 a3 a4 a5 a6 a7 a8 a9 a10 a11 a12 := by
  unfold wL_lawOf_192
  refine br_t rfl ?_
  unfold wpX_sound
  dsimp only
  exact ss_comp8 ht ht' h1 (fun b9 => ⟨ss_nb0, br_t rfl (ss_runU (br_t rfl (ss_l234B hp)))⟩)
end
end
section
/-- which flags go with which statement: x fits, y sound, z prints -/
def ss_H (k a b c x y z : Int32) : Prop :=
  (x = 0 ∧ y = 1 ∧ z = 0 ∧ ¬ ss_F k a b c) ∨
  (x = 1 ∧ ∃ t, t ≤ 11 ∧ k = nI t ∧ ss_G t a b c ∧ ((t ≤ 6 ∧ y = 1 ∧ z = 0) ∨ (t = 7 ∧ y = 1 ∧ z = 1) ∨ (8 ≤ t ∧ y = 0 ∧ z = 0)))
theorem ss_l143add {post : Int32 → St0 → Prop} {k a b c v w x y z : Int32} {kc ks : Nat} {a5 : Nat → Int32} (hp : post 1 ()) (h : ss_H k a b c x y z) (h5 : ss_V v w a5) :
    wpX_add (fun r u => match u with | (fl, fc, fs, fe, fd, fo, fb, fp, fq, a1, a2, a3, a4, a5, a6, a7, a8, a9, a10, a11, a12) => ((x = 0 → wL_lawOf_192 post 468 7488 a v w x y z (-1) r kc ks fl fc fs fe fd fo fb fp fq a1 a2 a3 a4 a5 a6 a7 a8 a9 a10 a11 a12) ∧ (¬ x = 0 → wL_lawOf_192 post 468 7488 a v w x y z 1 r kc ks fl fc fs fe fd fo fb fp fq a1 a2 a3 a4 a5 a6 a7 a8 a9 a10 a11 a12))) (0, 0, 0, 0, 0, 0, 0, 0, 0, (fun _ => 0), (fun _ => 0), (fun _ => 0), (fun _ => 0), a5, (fun _ => 0), (fun _ => 0), (fun _ => 0), (fun _ => 0), (fun _ => 0), (fun _ => 0), (fun _ => 0)) k a b c := by
  rcases h with ⟨rfl, rfl, rfl, hF⟩ | ⟨rfl, t, ht, rfl, hG, hc⟩
  · exact ss_add (fun j hj e hG a1' a2' a3' a4' g1 g2 => absurd ⟨j, hj, e, hG⟩ hF) (fun _ => br_t rfl (ss_l192A hp))
  · refine ss_add (fun j hj e _ a1' a2' a3' a4' g1 g2 => br_f (by decide) ?_) (fun hF => absurd ⟨t, ht, rfl, hG⟩ hF)
    have e' := (nI_eq (by omega) (by omega)).mp e
    subst e'
    rcases hc with ⟨h6, rfl, rfl⟩ | ⟨h7, rfl, rfl⟩ | ⟨h8, rfl, rfl⟩
    · exact ss_l192B hp h6 g1
    · subst h7
      have ha : ss_in a := by
        rcases hG.1 with q | q | q
        · exact absurd q (by omega)
        · exact absurd q (by omega)
        · exact q
      obtain ⟨i, hi, e⟩ := nI_of2 (n := 5) (by rfl) ha.1 ha.2
      exact ss_l192C hp (i := i) (by omega) e g1 (by rw [g2 rfl, e]) h5
    · exact ss_l192D hp h8 ht g1
theorem ss_l143 {post : Int32 → St0 → Prop} {k a b c v w x y z : Int32} (hp : post 1 ()) (h : ss_H k a b c x y z) : wL_lawOf_143 post 468 7488 k a b c v w x y z 0 0 := by
  unfold wL_lawOf_143
  refine ⟨by omega, by omega, 12, 1390, by omega, by omega, ?_⟩
  unfold wpX_init
  dsimp only
  refine ⟨by omega, by omega, by omega, by omega, by omega, by omega, by omega, by omega, by omega, by omega, by omega, by omega, by omega, by omega, by omega, by omega, by omega, by omega, by omega, by omega, by omega, by omega, by omega, by omega, ?_⟩
  refine ss_put (fun hv => ss_inL (fun _ => br_t rfl ?_) (fun q => absurd hv q)) (fun hv => ss_inL (fun q => absurd q hv) (fun _ => br_t rfl ?_))
  · exact ss_l143add hp h (ss_V1 hv)
  · exact ss_l143add hp h (ss_V0 hv)
theorem ss_l109z {post : Int32 → St0 → Prop} {k a b c v w : Int32} (hp : post 1 ()) (hF : ¬ ss_F k a b c) : wL_lawOf_109 post 468 7488 k a b c v w 0 0 0 :=
  br_t rfl (br_t rfl (ss_l143 hp (Or.inl ⟨rfl, rfl, rfl, hF⟩)))
theorem ss_l72z {post : Int32 → St0 → Prop} {k a b c v w : Int32} (hp : post 1 ()) (hF : ¬ ss_F k a b c) : wL_lawOf_72 post 468 7488 k a b c v w 0 0 0 :=
  br_c (fun _ => ss_l109z hp hF) (fun _ => br_c (fun _ => ss_l109z hp hF) (fun _ => br_t rfl (ss_l109z hp hF)))
theorem ss_l48z {post : Int32 → St0 → Prop} {k a b c v w : Int32} (hp : post 1 ()) (hF : ¬ ss_F k a b c) : wL_lawOf_48 post 468 7488 k a b c v w 0 0 0 :=
  br_c (fun _ => br_t rfl (ss_l72z hp hF)) (fun _ => ss_l72z hp hF)
theorem ss_l15z {post : Int32 → St0 → Prop} {k a b c v w : Int32} (hp : post 1 ()) (hF : ¬ ss_F k a b c) : wL_lawOf_15 post 468 7488 k a b c v w 0 0 0 :=
  br_c (fun _ => ss_l48z hp hF) (fun _ => br_c (fun _ => ss_l48z hp hF) (fun _ => br_t rfl (ss_l48z hp hF)))
theorem ss_l109o {post : Int32 → St0 → Prop} {a b c v w : Int32} {t : Nat} (hp : post 1 ()) (ht : t ≤ 11) (hG : ss_G t a b c) : wL_lawOf_109 post 468 7488 (nI t) a b c v w 1 0 0 :=
  br_f (by decide) (pk_lt 7 t (fun g => br_f (by decide) (pk_eq t 7 (fun q => absurd q (by omega)) (fun _ => ss_l143 hp (Or.inr ⟨rfl, t, ht, rfl, hG, Or.inr (Or.inr ⟨g, rfl, rfl⟩)⟩)))) (fun g => br_f (by decide) (pk_eq t 7 (fun q => ss_l143 hp (Or.inr ⟨rfl, t, ht, rfl, hG, Or.inr (Or.inl ⟨q, rfl, rfl⟩)⟩)) (fun q => ss_l143 hp (Or.inr ⟨rfl, t, ht, rfl, hG, Or.inl ⟨by omega, rfl, rfl⟩⟩)))))
theorem ss_l72o {post : Int32 → St0 → Prop} {a b c v w : Int32} {t : Nat} (hp : post 1 ()) (ht : t ≤ 11) (ha : t = 9 ∨ t = 11 ∨ ss_in a) (hb : t = 1 → ss_in b) : wL_lawOf_72 post 468 7488 (nI t) a b c v w 1 0 0 := by
  refine pk_lt t 2 (fun g => ss_l109o hp ht ⟨ha, fun q _ => hb (by omega), fun q => absurd q (by omega)⟩) (fun g => pk_lt 6 t (fun g' => ss_l109o hp ht ⟨ha, fun _ q => absurd q (by omega), fun _ q => absurd q (by omega)⟩) (fun g' => br_f (by decide) ?_))
  refine ss_inL (fun nb => br_f (by decide) (ss_inL (fun nc => br_f (by decide) (ss_l109o hp ht ⟨ha, fun _ _ => nb, fun _ _ => nc⟩)) (fun nc => br_t rfl ?_))) (fun nb => br_t rfl ?_)
  · exact ss_l109z hp (ss_Fn ht (fun q => nc (q.2.2 g g')))
  · exact ss_l109z hp (ss_Fn ht (fun q => nb (q.2.1 (by omega) g')))
theorem ss_l48o {post : Int32 → St0 → Prop} {a b c v w : Int32} {t : Nat} (hp : post 1 ()) (ht : t ≤ 11) (ha : t = 9 ∨ t = 11 ∨ ss_in a) : wL_lawOf_48 post 468 7488 (nI t) a b c v w 1 0 0 := by
  refine pk_eq t 1 (fun e => br_f (by decide) ?_) (fun e => ss_l72o hp ht ha (fun q => absurd q e))
  refine ss_inL (fun nb => br_f (by decide) (ss_l72o hp ht ha (fun _ => nb))) (fun nb => br_t rfl (ss_l72z hp (ss_Fn ht (fun q => nb (q.2.1 (by omega) (by omega))))))
theorem ss_l15o {post : Int32 → St0 → Prop} {a b c v w : Int32} {t : Nat} (hp : post 1 ()) (ht : t ≤ 11) : wL_lawOf_15 post 468 7488 (nI t) a b c v w 1 0 0 := by
  refine pk_eq t 9 (fun e => ss_l48o hp ht (Or.inl e)) (fun e9 => pk_eq t 11 (fun e => ss_l48o hp ht (Or.inr (Or.inl e))) (fun e11 => br_f (by decide) ?_))
  refine ss_inL (fun na => br_f (by decide) (ss_l48o hp ht (Or.inr (Or.inr na)))) (fun na => br_t rfl (ss_l48z hp (ss_Fn ht (fun q => ?_))))
  rcases q.1 with r | r | r
  · exact e9 r
  · exact e11 r
  · exact na r
theorem ss_lawOf {post : Int32 → St0 → Prop} {k a b c v w : Int32} (hp : post 1 ()) : wpL_lawOf post 468 7488 () k a b c v w := by
  unfold wpL_lawOf
  refine br_c (fun g => ss_l15z hp ?_) (fun g => br_c (fun h => ss_l15z hp ?_) (fun h => ?_))
  · intro ⟨j, hj, e, _⟩
    rw [e] at g
    exact nI_pos (by omega) g
  · intro ⟨j, hj, e, _⟩
    rw [e] at h
    exact nI_nlt (a := 11) (b := j) hj (by omega) h
  · obtain ⟨t, ht, e⟩ := nI_of2 (n := 11) (M := 11) (by rfl) g (Int32.not_lt.mp h)
    subst e
    exact ss_l15o hp ht
theorem ss_cell {post : Int32 → Prop} {L i : Nat} {xs : Nat → Int32} {p : Int32} (hL : L ≤ 6) (hi : i < 6) (hx : p = nI i) (H : ∀ r, post r) : wpL_cellAt post L xs () p :=
  pk_le L i (fun _ => H _) (fun z => ⟨pk_in i L z hx, H _⟩) (by rfl) hx
theorem i_vc (xs : Nat → Int32) (L : Nat) (hL : L ≤ 6) : wpL_law (fun r => r = 1) L xs :=
  ss_cell (i := 0) hL (by omega) (by rfl) (fun r1 => ss_cell (i := 1) hL (by omega) (by rfl) (fun r2 => ss_cell (i := 2) hL (by omega) (by rfl) (fun r3 => ss_cell (i := 3) hL (by omega) (by rfl) (fun r4 => ss_cell (i := 4) hL (by omega) (by rfl) (fun r5 => ss_cell (i := 5) hL (by omega) (by rfl) (fun r6 => ⟨468, 7488, by omega, by omega, ss_lawOf rfl⟩))))))
end
