section
section
variable {l : Int32} {a1 a2 a3 a4 a5 a6 a7 a8 a9 a10 a11 a12 a13 a14 a15 : Nat → Int32}
/-- 6 p + d over naturals -/
theorem dt_ix (p d : Nat) : (6 : Int32) * nI p + nI d = nI (6 * p + d) := by
  rw [show (6 : Int32) = nI 6 from rfl, pk_mul, nI_add]
theorem dt_ix8 (p d : Nat) : (8 : Int32) * nI p + nI d = nI (8 * p + d) := by
  rw [show (8 : Int32) = nI 8 from rfl, pk_mul, nI_add]
/-- the lowest place below n that f takes, r if there is none -/
def dt_lo (f : Nat → Bool) : Nat → Nat → Nat
  | 0, r => r
  | n + 1, r => dt_lo f n (cond (f n) n r)
theorem dt_lo_lt (f : Nat → Bool) (N : Nat) : ∀ n r, n ≤ N → r < N → dt_lo f n r < N := by
  intro n
  induction n with
  | zero => exact fun r _ h => h
  | succ n ih =>
    intro r hn hr
    show dt_lo f n (cond (f n) n r) < N
    refine ih _ (by omega) ?_
    cases f n
    · exact hr
    · exact (by omega : n < N)
theorem dt_lo_t {f : Nat → Bool} {n r : Nat} (h : f n = true) : dt_lo f (n + 1) r = dt_lo f n n := by
  show dt_lo f n (cond (f n) n r) = _
  rw [h]; rfl
theorem dt_lo_f {f : Nat → Bool} {n r : Nat} (h : f n = false) : dt_lo f (n + 1) r = dt_lo f n r := by
  show dt_lo f n (cond (f n) n r) = _
  rw [h]; rfl
/-- how many places below n f takes -/
def dt_cn (f : Nat → Bool) : Nat → Nat
  | 0 => 0
  | n + 1 => dt_cn f n + cond (f n) 1 0
theorem dt_cn_t {f : Nat → Bool} {n : Nat} (h : f n = true) : nI (dt_cn f n) + 1 = nI (dt_cn f (n + 1)) := by
  show _ = nI (dt_cn f n + cond (f n) 1 0)
  rw [h]; exact nI_1 _
theorem dt_cn_f {f : Nat → Bool} {n : Nat} (h : f n = false) : nI (dt_cn f n) + 0 = nI (dt_cn f (n + 1)) := by
  show _ = nI (dt_cn f n + cond (f n) 1 0)
  rw [h]; exact Int32.add_zero _
/-- a fresh table: -1 below n -/
def dt_neg (n : Nat) : Nat → Int32 := fun j => if j < n then (-1) else 0
theorem dt_neg_s (n : Nat) : upd (dt_neg n) n (-1) = dt_neg (n + 1) := by
  funext j
  unfold upd dt_neg
  by_cases h : j = n
  · rw [if_pos h, if_pos (by omega)]
  · rw [if_neg h]
    by_cases h2 : j < n
    · rw [if_pos h2, if_pos (by omega)]
    · rw [if_neg h2, if_neg (by omega)]
theorem dt_neg_0 : dt_neg 0 = fun _ => 0 := by
  funext j
  exact if_neg (by omega)
/-- isAlive, of a process that is -/
theorem dt_alive {post : Int32 → Prop} (p : Nat) (hp : p < 4) (h1 : ¬ a1 p = 0) (hq : post 1) :
    wpX_isAlive post (l, a1, a2, a3, a4, a5, a6, a7, a8, a9, a10, a11, a12, a13, a14, a15) (nI p) := by
  unfold wpX_isAlive
  refine br_f (nI_pos (by omega)) (br_f (nI_nlt (a := 3) (b := p) (by omega) (by decide)) ⟨vp_in_nI hp (by omega), br_f ?_ hq⟩)
  rw [nI_clamp (by omega)]
  exact h1
/-- openingOf, of a process that is alive -/
theorem dt_op {post : Int32 → Prop} (p d : Nat) (r : Int32) (hp : p < 4) (hd : d < 6) (h1 : ¬ a1 p = 0) (hr : a2 (6 * p + d) = r) (hq : post r) :
    wpX_openingOf post (l, a1, a2, a3, a4, a5, a6, a7, a8, a9, a10, a11, a12, a13, a14, a15) (nI p) (nI d) := by
  unfold wpX_openingOf
  refine dt_alive p hp h1 (br_f (by decide) (br_f (nI_pos (by omega)) (br_t (nI_le (b := 5) (by omega) (by decide)) ⟨pk_in (6 * p + d) 24 (by omega) (dt_ix p d), ?_⟩)))
  rw [pk_cl (6 * p + d) (dt_ix p d) (by omega), hr]
  exact hq
/-- freeDescriptor, where d is the first free one from k on -/
theorem dt_fd {post : Int32 → Prop} (p k d : Nat) (hp : p < 4) (hk : k ≤ d) (hd : d < 6) (h : ∀ j, j < d → k ≤ j → 0 ≤ a2 (6 * p + j)) (h2 : ¬ 0 ≤ a2 (6 * p + d)) (hq : post (nI d)) :
    wpX_freeDescriptor post (l, a1, a2, a3, a4, a5, a6, a7, a8, a9, a10, a11, a12, a13, a14, a15) (nI p) (nI k) := by
  unfold wpX_freeDescriptor
  exact pk_loop (σ := Unit) (fun n i _ => wX_freeDescriptor_2 post (nI p) l a1 a2 a3 a4 a5 a6 a7 a8 a9 a10 a11 a12 a13 a14 a15 n (nI i)) (fun i _ => k ≤ i) d k () hk (Nat.le_refl k)
    (fun n _ _ => br_f (nI_ge (b := 6) hd (by decide)) ⟨pk_in (6 * p + d) 24 (by omega) (dt_ix p d), br_f (by rw [pk_cl (6 * p + d) (dt_ix p d) (by omega)]; exact h2) hq⟩)
    (fun n i _ hi hki hw => br_f (nI_ge (b := 6) (by omega) (by decide)) ⟨pk_in (6 * p + i) 24 (by omega) (dt_ix p i), br_t (by rw [pk_cl (6 * p + i) (dt_ix p i) (by omega)]; exact h i hi hki) (nm_r (nI_1 i) (hw () (Nat.le_succ_of_le hki)))⟩)
/-- which pipes are free -/
def dt_pf (f g : Nat → Int32) : Nat → Bool := fun j => decide (f j = 0) && decide (g j = 0)
/-- which places hold 0 -/
def dt_zf (f : Nat → Int32) : Nat → Bool := fun j => decide (f j = 0)
/-- which places hold more than 0 -/
def dt_gf (f : Nat → Int32) : Nat → Bool := fun j => !decide (f j ≤ 0)
theorem dt_fp5 {post : Int32 → Prop} : ∀ m r, m ≤ 24 → post (nI (dt_lo (dt_pf a11 a12) m r)) → wX_freePipe_5 post l a1 a2 a3 a4 a5 a6 a7 a8 a9 a10 a11 a12 a13 a14 a15 (m + 1) (nI r) (nI m + (-1)) := by
  intro m
  induction m with
  | zero => exact fun r _ hq => br_t (by decide) hq
  | succ m ih =>
    intro r hm hq
    rw [pk_m1]
    have e : (nI m).toNatClampNeg = m := nI_clamp (by omega)
    refine br_f (nI_pos (by omega)) ⟨vp_in_nI (by omega) (by omega), ?_⟩
    rw [e]
    by_cases h1 : a11 m = 0
    · refine br_t h1 ⟨vp_in_nI (by omega) (by omega), ?_⟩
      by_cases h2 : a12 m = 0
      · exact br_t h2 (nm_e (ih m (by omega) (by rw [dt_lo_t (by unfold dt_pf; rw [decide_eq_true h1, decide_eq_true h2]; rfl)] at hq; exact hq)))
      · exact br_f h2 (nm_e (ih r (by omega) (by rw [dt_lo_f (by unfold dt_pf; rw [decide_eq_false h2, Bool.and_false])] at hq; exact hq)))
    · exact br_f h1 (nm_e (ih r (by omega) (by rw [dt_lo_f (by unfold dt_pf; rw [decide_eq_false h1, Bool.false_and])] at hq; exact hq)))
theorem dt_fp {post : Int32 → Prop} (k : Nat) (hk : dt_lo (dt_pf a11 a12) 24 0 = k) (hq : post (nI k)) : wpX_freePipe post (l, a1, a2, a3, a4, a5, a6, a7, a8, a9, a10, a11, a12, a13, a14, a15) := by
  unfold wpX_freePipe
  refine ⟨25, ?_⟩
  subst hk
  exact dt_fp5 24 0 (by omega) hq
theorem dt_ff5 {post : Int32 → Prop} : ∀ m r, m ≤ 28 → post (nI (dt_lo (dt_zf a8) m r)) → wX_freeFile_5 post l a1 a2 a3 a4 a5 a6 a7 a8 a9 a10 a11 a12 a13 a14 a15 (m + 1) (nI r) (nI m + (-1)) := by
  intro m
  induction m with
  | zero => exact fun r _ hq => br_t (by decide) hq
  | succ m ih =>
    intro r hm hq
    rw [pk_m1]
    have e : (nI m).toNatClampNeg = m := nI_clamp (by omega)
    refine br_f (nI_pos (by omega)) ⟨vp_in_nI (by omega) (by omega), ?_⟩
    rw [e]
    by_cases h1 : a8 m = 0
    · exact br_t h1 (nm_e (ih m (by omega) (by rw [dt_lo_t (by unfold dt_zf; exact decide_eq_true h1)] at hq; exact hq)))
    · exact br_f h1 (nm_e (ih r (by omega) (by rw [dt_lo_f (by unfold dt_zf; exact decide_eq_false h1)] at hq; exact hq)))
theorem dt_ff {post : Int32 → Prop} (k : Nat) (hk : dt_lo (dt_zf a8) 28 0 = k) (hq : post (nI k)) : wpX_freeFile post (l, a1, a2, a3, a4, a5, a6, a7, a8, a9, a10, a11, a12, a13, a14, a15) := by
  unfold wpX_freeFile
  refine ⟨29, ?_⟩
  subst hk
  exact dt_ff5 28 0 (by omega) hq
theorem dt_no6 {post : Int32 → St2 → Prop} {s t : Int32} : ∀ m r, m ≤ 24 → r < 24 → (∀ k, k = dt_lo (dt_zf a3) m r → post (nI k) (l, a1, a2, upd a3 k 1, upd a4 k s, upd a5 k t, upd a6 k 0, a7, a8, a9, a10, a11, a12, a13, a14, a15)) → wX_newOpening_6 post s t l a1 a2 a3 a4 a5 a6 a7 a8 a9 a10 a11 a12 a13 a14 a15 (m + 1) (nI r) (nI m + (-1)) := by
  intro m
  induction m with
  | zero =>
    intro r _ hr hq
    have e : (nI r).toNatClampNeg = r := nI_clamp (by omega)
    have hi : vp_in (nI r) 24 := vp_in_nI hr (by omega)
    exact br_t (by decide) ⟨hi, nm_r (by rw [e]) ⟨hi, nm_r (by rw [e]) ⟨hi, nm_r (by rw [e]) ⟨hi, nm_r (by rw [e]) (hq r rfl)⟩⟩⟩⟩
  | succ m ih =>
    intro r hm hr hq
    rw [pk_m1]
    have e : (nI m).toNatClampNeg = m := nI_clamp (by omega)
    refine br_f (nI_pos (by omega)) ⟨vp_in_nI (by omega) (by omega), ?_⟩
    rw [e]
    by_cases h1 : a3 m = 0
    · exact br_t h1 (nm_e (ih m (by omega) (by omega) (by rw [dt_lo_t (by unfold dt_zf; exact decide_eq_true h1)] at hq; exact hq)))
    · exact br_f h1 (nm_e (ih r (by omega) hr (by rw [dt_lo_f (by unfold dt_zf; exact decide_eq_false h1)] at hq; exact hq)))
/-- newOpening, where k is the lowest opening that isn't there -/
theorem dt_no {post : Int32 → St2 → Prop} (k : Nat) (s t : Int32) (hk : dt_lo (dt_zf a3) 24 0 = k) (hq : post (nI k) (l, a1, a2, upd a3 k 1, upd a4 k s, upd a5 k t, upd a6 k 0, a7, a8, a9, a10, a11, a12, a13, a14, a15)) : wpX_newOpening post (l, a1, a2, a3, a4, a5, a6, a7, a8, a9, a10, a11, a12, a13, a14, a15) s t := by
  unfold wpX_newOpening
  refine ⟨25, ?_⟩
  exact dt_no6 24 0 (by omega) (by omega) (fun j hj => by rw [hj, hk]; exact hq)
end
end
section
section
variable {l : Int32} {a1 a2 a3 a4 a5 a6 a7 a8 a9 a10 a11 a12 a13 a14 a15 : Nat → Int32}
theorem dt_ct77 {post : Int32 → Prop} {x1 x2 : Int32} (hq : post (((100 * x1) + (10 * x2)) + nI (dt_cn (fun j => !dt_pf a11 a12 j) 24))) : ∃ n, wX_counts_77 post x1 x2 l a1 a2 a3 a4 a5 a6 a7 a8 a9 a10 a11 a12 a13 a14 a15 n 0 0 :=
  pk_loop (σ := Unit) (fun n i _ => wX_counts_77 post x1 x2 l a1 a2 a3 a4 a5 a6 a7 a8 a9 a10 a11 a12 a13 a14 a15 n (nI (dt_cn (fun j => !dt_pf a11 a12 j) i)) (nI i)) (fun _ _ => True) 24 0 () (by omega) trivial
    (fun n _ _ => br_t (nI_le (Nat.le_refl 24) (by decide)) hq)
    (fun n i _ hi _ hw => by
      have e : (nI i).toNatClampNeg = i := nI_clamp (by omega)
      refine br_f (nI_ge (b := 24) hi (by decide)) ⟨vp_in_nI hi (by omega), ?_⟩
      rw [e]
      by_cases h1 : a11 i = 0
      · refine br_t h1 ⟨vp_in_nI hi (by omega), ?_⟩
        by_cases h2 : a12 i = 0
        · exact br_t h2 (nm_r (dt_cn_f (by unfold dt_pf; rw [decide_eq_true h1, decide_eq_true h2]; rfl)) (nm_r (nI_1 i) (hw () trivial)))
        · exact br_f h2 (nm_r (dt_cn_t (by unfold dt_pf; rw [decide_eq_false h2, Bool.and_false]; rfl)) (nm_r (nI_1 i) (hw () trivial)))
      · exact br_f h1 (nm_r (dt_cn_t (by unfold dt_pf; rw [decide_eq_false h1, Bool.false_and]; rfl)) (nm_r (nI_1 i) (hw () trivial))))
theorem dt_ct43 {post : Int32 → Prop} {x1 : Int32} (hq : post (((100 * x1) + (10 * nI (dt_cn (dt_gf a8) 28))) + nI (dt_cn (fun j => !dt_pf a11 a12 j) 24))) : ∃ n, wX_counts_43 post x1 0 l a1 a2 a3 a4 a5 a6 a7 a8 a9 a10 a11 a12 a13 a14 a15 n 0 0 :=
  pk_loop (σ := Unit) (fun n i _ => wX_counts_43 post x1 0 l a1 a2 a3 a4 a5 a6 a7 a8 a9 a10 a11 a12 a13 a14 a15 n (nI (dt_cn (dt_gf a8) i)) (nI i)) (fun _ _ => True) 28 0 () (by omega) trivial
    (fun n _ _ => br_t (nI_le (Nat.le_refl 28) (by decide)) (dt_ct77 hq))
    (fun n i _ hi _ hw => by
      have e : (nI i).toNatClampNeg = i := nI_clamp (by omega)
      refine br_f (nI_ge (b := 28) hi (by decide)) ⟨vp_in_nI hi (by omega), ?_⟩
      rw [e]
      by_cases h1 : a8 i ≤ 0
      · exact br_t h1 (nm_r (dt_cn_f (by unfold dt_gf; rw [decide_eq_true h1]; rfl)) (nm_r (nI_1 i) (hw () trivial)))
      · exact br_f h1 (nm_r (dt_cn_t (by unfold dt_gf; rw [decide_eq_false h1]; rfl)) (nm_r (nI_1 i) (hw () trivial))))
theorem dt_ct9 {post : Int32 → Prop} (hq : post (((100 * nI (dt_cn (dt_gf a3) 24)) + (10 * nI (dt_cn (dt_gf a8) 28))) + nI (dt_cn (fun j => !dt_pf a11 a12 j) 24))) : ∃ n, wX_counts_9 post 0 0 l a1 a2 a3 a4 a5 a6 a7 a8 a9 a10 a11 a12 a13 a14 a15 n 0 0 :=
  pk_loop (σ := Unit) (fun n i _ => wX_counts_9 post 0 0 l a1 a2 a3 a4 a5 a6 a7 a8 a9 a10 a11 a12 a13 a14 a15 n (nI (dt_cn (dt_gf a3) i)) (nI i)) (fun _ _ => True) 24 0 () (by omega) trivial
    (fun n _ _ => br_t (nI_le (Nat.le_refl 24) (by decide)) (dt_ct43 hq))
    (fun n i _ hi _ hw => by
      have e : (nI i).toNatClampNeg = i := nI_clamp (by omega)
      refine br_f (nI_ge (b := 24) hi (by decide)) ⟨vp_in_nI hi (by omega), ?_⟩
      rw [e]
      by_cases h1 : a3 i ≤ 0
      · exact br_t h1 (nm_r (dt_cn_f (by unfold dt_gf; rw [decide_eq_true h1]; rfl)) (nm_r (nI_1 i) (hw () trivial)))
      · exact br_f h1 (nm_r (dt_cn_t (by unfold dt_gf; rw [decide_eq_false h1]; rfl)) (nm_r (nI_1 i) (hw () trivial))))
/-- counts, of a table with c1 openings, c2 files and c3 pipes -/
theorem dt_counts {post : Int32 → Prop} (c1 c2 c3 : Nat) (h1 : dt_cn (dt_gf a3) 24 = c1) (h2 : dt_cn (dt_gf a8) 28 = c2) (h3 : dt_cn (fun j => !dt_pf a11 a12 j) 24 = c3) (hq : post (nI (100 * c1 + 10 * c2 + c3))) : wpX_counts post (l, a1, a2, a3, a4, a5, a6, a7, a8, a9, a10, a11, a12, a13, a14, a15) := by
  unfold wpX_counts
  refine dt_ct9 ?_
  rw [h1, h2, h3, show (100 : Int32) = nI 100 from rfl, show (10 : Int32) = nI 10 from rfl, pk_mul, pk_mul, nI_add, nI_add]
  exact hq
end
end
section
section
variable {l : Int32} {a1 a2 a3 a4 a5 a6 a7 a8 a9 a10 a11 a12 a13 a14 a15 : Nat → Int32}
/-- letGo: others hold the opening still -/
theorem dt_lg_keep {post : St2 → Prop} (o : Nat) (v : Int32) (ho : o < 24) (hv : a3 o - 1 = v) (hv0 : ¬ v ≤ 0) (hq : post (l, a1, a2, upd a3 o v, a4, a5, a6, a7, a8, a9, a10, a11, a12, a13, a14, a15)) : wpX_letGo post (l, a1, a2, a3, a4, a5, a6, a7, a8, a9, a10, a11, a12, a13, a14, a15) (nI o) := by
  have e : (nI o).toNatClampNeg = o := nI_clamp (by omega)
  have hi : vp_in (nI o) 24 := vp_in_nI ho (by omega)
  unfold wpX_letGo
  refine ⟨hi, hi, nm_r (by rw [e, hv]) ⟨hi, br_f ?_ hq⟩⟩
  rw [e, pk_us]
  exact hv0
/-- letGo: the last of a file's opening -/
theorem dt_lg_file {post : St2 → Prop} (o f : Nat) (v w : Int32) (ho : o < 24) (hv : a3 o - 1 = v) (hv0 : v ≤ 0) (h4 : a4 o = 1) (h5 : a5 o = nI f) (hf : f < 28) (hw : a8 f - 1 = w) (hq : post (l, a1, a2, upd a3 o v, a4, a5, a6, a7, upd a8 f w, a9, a10, a11, a12, a13, a14, a15)) : wpX_letGo post (l, a1, a2, a3, a4, a5, a6, a7, a8, a9, a10, a11, a12, a13, a14, a15) (nI o) := by
  have e : (nI o).toNatClampNeg = o := nI_clamp (by omega)
  have e2 : (nI f).toNatClampNeg = f := nI_clamp (by omega)
  have hi : vp_in (nI o) 24 := vp_in_nI ho (by omega)
  have hj : vp_in (nI f) 28 := vp_in_nI hf (by omega)
  unfold wpX_letGo
  dsimp only
  rw [e, h5, e2, h4]
  refine ⟨hi, hi, nm_r (by rw [hv]) ⟨hi, br_t ?_ ⟨hi, br_t rfl ⟨hi, hj, hj, nm_r (by rw [hw]) hq⟩⟩⟩⟩
  rw [pk_us]
  exact hv0
/-- letGo: the last of a reading end -/
theorem dt_lg_rd {post : St2 → Prop} (o q : Nat) (v : Int32) (ho : o < 24) (hv : a3 o - 1 = v) (hv0 : v ≤ 0) (h4 : a4 o = 2) (h5 : a5 o = nI q) (hf : q < 24) (hq : post (l, a1, a2, upd a3 o v, a4, a5, a6, a7, a8, a9, a10, upd a11 q 0, a12, a13, a14, a15)) : wpX_letGo post (l, a1, a2, a3, a4, a5, a6, a7, a8, a9, a10, a11, a12, a13, a14, a15) (nI o) := by
  have e : (nI o).toNatClampNeg = o := nI_clamp (by omega)
  have e2 : (nI q).toNatClampNeg = q := nI_clamp (by omega)
  have hi : vp_in (nI o) 24 := vp_in_nI ho (by omega)
  have hj : vp_in (nI q) 24 := vp_in_nI hf (by omega)
  unfold wpX_letGo
  dsimp only
  rw [e, h5, e2, h4]
  refine ⟨hi, hi, nm_r (by rw [hv]) ⟨hi, br_t ?_ ⟨hi, br_f (by decide) ⟨hi, br_t rfl ⟨hi, hj, nm_e hq⟩⟩⟩⟩⟩
  rw [pk_us]
  exact hv0
/-- letGo: the last of a writing end -/
theorem dt_lg_wr {post : St2 → Prop} (o q : Nat) (v : Int32) (ho : o < 24) (hv : a3 o - 1 = v) (hv0 : v ≤ 0) (h4 : a4 o = 3) (h5 : a5 o = nI q) (hf : q < 24) (hq : post (l, a1, a2, upd a3 o v, a4, a5, a6, a7, a8, a9, a10, a11, upd a12 q 0, a13, a14, a15)) : wpX_letGo post (l, a1, a2, a3, a4, a5, a6, a7, a8, a9, a10, a11, a12, a13, a14, a15) (nI o) := by
  have e : (nI o).toNatClampNeg = o := nI_clamp (by omega)
  have e2 : (nI q).toNatClampNeg = q := nI_clamp (by omega)
  have hi : vp_in (nI o) 24 := vp_in_nI ho (by omega)
  have hj : vp_in (nI q) 24 := vp_in_nI hf (by omega)
  unfold wpX_letGo
  dsimp only
  rw [e, h5, e2, h4]
  refine ⟨hi, hi, nm_r (by rw [hv]) ⟨hi, br_t ?_ ⟨hi, br_f (by decide) ⟨hi, br_f (by decide) ⟨hi, hj, nm_e hq⟩⟩⟩⟩⟩
  rw [pk_us]
  exact hv0
/-- close, up to letGo -/
theorem dt_cl_keep {post : Int32 → St2 → Prop} (p d o : Nat) (v : Int32) (hp : p < 4) (hd : d < 6) (h1 : ¬ a1 p = 0) (h2 : a2 (6 * p + d) = nI o) (ho : o < 24) (hv : a3 o - 1 = v) (hv0 : ¬ v ≤ 0)
    (hq : post 0 (l, a1, upd a2 (6 * p + d) (-1), upd a3 o v, a4, a5, a6, a7, a8, a9, a10, a11, a12, a13, a14, a15)) : wpX_close post (l, a1, a2, a3, a4, a5, a6, a7, a8, a9, a10, a11, a12, a13, a14, a15) (nI p) (nI d) := by
  unfold wpX_close
  exact dt_op p d (nI o) hp hd h1 h2 (br_t (nI_pos' (by omega)) ⟨pk_in (6 * p + d) 24 (by omega) (dt_ix p d), nm_r (by rw [pk_cl (6 * p + d) (dt_ix p d) (by omega)]) (dt_lg_keep o v ho hv hv0 hq)⟩)
theorem dt_cl_file {post : Int32 → St2 → Prop} (p d o f : Nat) (v w : Int32) (hp : p < 4) (hd : d < 6) (h1 : ¬ a1 p = 0) (h2 : a2 (6 * p + d) = nI o) (ho : o < 24) (hv : a3 o - 1 = v) (hv0 : v ≤ 0) (h4 : a4 o = 1) (h5 : a5 o = nI f) (hf : f < 28) (hw : a8 f - 1 = w)
    (hq : post 0 (l, a1, upd a2 (6 * p + d) (-1), upd a3 o v, a4, a5, a6, a7, upd a8 f w, a9, a10, a11, a12, a13, a14, a15)) : wpX_close post (l, a1, a2, a3, a4, a5, a6, a7, a8, a9, a10, a11, a12, a13, a14, a15) (nI p) (nI d) := by
  unfold wpX_close
  exact dt_op p d (nI o) hp hd h1 h2 (br_t (nI_pos' (by omega)) ⟨pk_in (6 * p + d) 24 (by omega) (dt_ix p d), nm_r (by rw [pk_cl (6 * p + d) (dt_ix p d) (by omega)]) (dt_lg_file o f v w ho hv hv0 h4 h5 hf hw hq)⟩)
theorem dt_cl_rd {post : Int32 → St2 → Prop} (p d o q : Nat) (v : Int32) (hp : p < 4) (hd : d < 6) (h1 : ¬ a1 p = 0) (h2 : a2 (6 * p + d) = nI o) (ho : o < 24) (hv : a3 o - 1 = v) (hv0 : v ≤ 0) (h4 : a4 o = 2) (h5 : a5 o = nI q) (hf : q < 24)
    (hq : post 0 (l, a1, upd a2 (6 * p + d) (-1), upd a3 o v, a4, a5, a6, a7, a8, a9, a10, upd a11 q 0, a12, a13, a14, a15)) : wpX_close post (l, a1, a2, a3, a4, a5, a6, a7, a8, a9, a10, a11, a12, a13, a14, a15) (nI p) (nI d) := by
  unfold wpX_close
  exact dt_op p d (nI o) hp hd h1 h2 (br_t (nI_pos' (by omega)) ⟨pk_in (6 * p + d) 24 (by omega) (dt_ix p d), nm_r (by rw [pk_cl (6 * p + d) (dt_ix p d) (by omega)]) (dt_lg_rd o q v ho hv hv0 h4 h5 hf hq)⟩)
theorem dt_cl_wr {post : Int32 → St2 → Prop} (p d o q : Nat) (v : Int32) (hp : p < 4) (hd : d < 6) (h1 : ¬ a1 p = 0) (h2 : a2 (6 * p + d) = nI o) (ho : o < 24) (hv : a3 o - 1 = v) (hv0 : v ≤ 0) (h4 : a4 o = 3) (h5 : a5 o = nI q) (hf : q < 24)
    (hq : post 0 (l, a1, upd a2 (6 * p + d) (-1), upd a3 o v, a4, a5, a6, a7, a8, a9, a10, a11, upd a12 q 0, a13, a14, a15)) : wpX_close post (l, a1, a2, a3, a4, a5, a6, a7, a8, a9, a10, a11, a12, a13, a14, a15) (nI p) (nI d) := by
  unfold wpX_close
  exact dt_op p d (nI o) hp hd h1 h2 (br_t (nI_pos' (by omega)) ⟨pk_in (6 * p + d) 24 (by omega) (dt_ix p d), nm_r (by rw [pk_cl (6 * p + d) (dt_ix p d) (by omega)]) (dt_lg_wr o q v ho hv hv0 h4 h5 hf hq)⟩)
end
end
section
section
variable {l : Int32} {a1 a2 a3 a4 a5 a6 a7 a8 a9 a10 a11 a12 a13 a14 a15 : Nat → Int32}
/-- readPipe: nothing there, a writer is -/
theorem dt_rp_wait {post : Int32 → St2 → Prop} (q : Nat) (hq : q < 24) (h14 : a14 q = 0) (h12 : ¬ a12 q = 0) (hp : post (-4) (l, a1, a2, a3, a4, a5, a6, a7, a8, a9, a10, a11, a12, a13, a14, a15)) : wpX_readPipe post (l, a1, a2, a3, a4, a5, a6, a7, a8, a9, a10, a11, a12, a13, a14, a15) (nI q) := by
  have e : (nI q).toNatClampNeg = q := nI_clamp (by omega)
  have hi : vp_in (nI q) 24 := vp_in_nI hq (by omega)
  unfold wpX_readPipe
  dsimp only
  rw [e]
  exact ⟨hi, br_t h14 ⟨hi, br_f h12 hp⟩⟩
theorem dt_rp_end {post : Int32 → St2 → Prop} (q : Nat) (hq : q < 24) (h14 : a14 q = 0) (h12 : a12 q = 0) (hp : post (-5) (l, a1, a2, a3, a4, a5, a6, a7, a8, a9, a10, a11, a12, a13, a14, a15)) : wpX_readPipe post (l, a1, a2, a3, a4, a5, a6, a7, a8, a9, a10, a11, a12, a13, a14, a15) (nI q) := by
  have e : (nI q).toNatClampNeg = q := nI_clamp (by omega)
  have hi : vp_in (nI q) 24 := vp_in_nI hq (by omega)
  unfold wpX_readPipe
  dsimp only
  rw [e]
  exact ⟨hi, br_t h14 ⟨hi, br_t h12 hp⟩⟩
/-- readPipe: n + 1 bytes from place s on -/
theorem dt_rp_val {post : Int32 → St2 → Prop} (q s n : Nat) (hq : q < 24) (hs : s < 6) (h14 : a14 q = nI (n + 1)) (hn : n < 6) (h13 : a13 q = nI s)
    (hp : post (a15 (6 * q + s)) (l, a1, a2, a3, a4, a5, a6, a7, a8, a9, a10, a11, a12, upd a13 q (nI (if s = 5 then 0 else s + 1)), upd a14 q (nI n), a15)) : wpX_readPipe post (l, a1, a2, a3, a4, a5, a6, a7, a8, a9, a10, a11, a12, a13, a14, a15) (nI q) := by
  have e : (nI q).toNatClampNeg = q := nI_clamp (by omega)
  have hi : vp_in (nI q) 24 := vp_in_nI hq (by omega)
  unfold wpX_readPipe
  dsimp only
  rw [e, h13]
  refine ⟨hi, br_f (by rw [h14]; exact nI_ne0 (by omega) (by omega)) ⟨hi, pk_in (6 * q + s) 144 (by omega) (dt_ix q s), nm_r (by rw [pk_cl (6 * q + s) (dt_ix q s) (by omega)]) ⟨hi, ?_⟩⟩⟩
  refine pk_eq s 5 (fun h => ?_) (fun h => ⟨hi, ?_⟩)
  · rw [if_pos h] at hp
    unfold wX_readPipe_70
    exact ⟨hi, nm_r (by rw [e]; rfl) ⟨hi, hi, nm_r (by rw [e, h14, nI_pred]) hp⟩⟩
  · rw [if_neg h] at hp
    unfold wX_readPipe_70
    exact ⟨hi, nm_r (by rw [e, nI_1]) ⟨hi, hi, nm_r (by rw [e, h14, nI_pred]) hp⟩⟩
/-- readFile at the end -/
theorem dt_rf_end {post : Int32 → St2 → Prop} (o f : Nat) (ho : o < 24) (hf : f < 28) (h5 : a5 o = nI f) (h : ¬ a6 o < a9 f) (hp : post (-5) (l, a1, a2, a3, a4, a5, a6, a7, a8, a9, a10, a11, a12, a13, a14, a15)) : wpX_readFile post (l, a1, a2, a3, a4, a5, a6, a7, a8, a9, a10, a11, a12, a13, a14, a15) (nI o) := by
  have e : (nI o).toNatClampNeg = o := nI_clamp (by omega)
  have e2 : (nI f).toNatClampNeg = f := nI_clamp (by omega)
  have hi : vp_in (nI o) 24 := vp_in_nI ho (by omega)
  unfold wpX_readFile
  dsimp only
  rw [e]
  exact ⟨hi, nm_r h5 ⟨hi, nm_e ⟨vp_in_nI hf (by omega), br_f (by rw [e2]; exact h) hp⟩⟩⟩
/-- readFile of a byte, at offset s -/
theorem dt_rf_val {post : Int32 → St2 → Prop} (o f s : Nat) (ho : o < 24) (hf : f < 28) (hs : s < 8) (h5 : a5 o = nI f) (h6 : a6 o = nI s) (h : nI s < a9 f) (hp : post (a10 (8 * f + s)) (l, a1, a2, a3, a4, a5, upd a6 o (nI (s + 1)), a7, a8, a9, a10, a11, a12, a13, a14, a15)) : wpX_readFile post (l, a1, a2, a3, a4, a5, a6, a7, a8, a9, a10, a11, a12, a13, a14, a15) (nI o) := by
  have e : (nI o).toNatClampNeg = o := nI_clamp (by omega)
  have e2 : (nI f).toNatClampNeg = f := nI_clamp (by omega)
  have hi : vp_in (nI o) 24 := vp_in_nI ho (by omega)
  unfold wpX_readFile
  dsimp only
  rw [e]
  refine ⟨hi, nm_r h5 ⟨hi, nm_r h6 ⟨vp_in_nI hf (by omega), br_t (by rw [e2]; exact h) ⟨hi, nm_r (by rw [nI_1]) ⟨pk_in (8 * f + s) 224 (by omega) (dt_ix8 f s), ?_⟩⟩⟩⟩⟩
  rw [pk_cl (8 * f + s) (dt_ix8 f s) (by omega)]
  exact hp
/-- writePipe: no reader -/
theorem dt_wp_brk {post : Int32 → St2 → Prop} (q : Nat) (v : Int32) (hq : q < 24) (h11 : a11 q = 0) (hp : post (-3) (l, a1, a2, a3, a4, a5, a6, a7, a8, a9, a10, a11, a12, a13, a14, a15)) : wpX_writePipe post (l, a1, a2, a3, a4, a5, a6, a7, a8, a9, a10, a11, a12, a13, a14, a15) (nI q) v := by
  have e : (nI q).toNatClampNeg = q := nI_clamp (by omega)
  have hi : vp_in (nI q) 24 := vp_in_nI hq (by omega)
  unfold wpX_writePipe
  dsimp only
  rw [e]
  exact ⟨hi, br_t h11 hp⟩
theorem dt_wp_wait {post : Int32 → St2 → Prop} (q : Nat) (v : Int32) (hq : q < 24) (h11 : ¬ a11 q = 0) (h14 : a14 q = 6) (hp : post (-4) (l, a1, a2, a3, a4, a5, a6, a7, a8, a9, a10, a11, a12, a13, a14, a15)) : wpX_writePipe post (l, a1, a2, a3, a4, a5, a6, a7, a8, a9, a10, a11, a12, a13, a14, a15) (nI q) v := by
  have e : (nI q).toNatClampNeg = q := nI_clamp (by omega)
  have hi : vp_in (nI q) 24 := vp_in_nI hq (by omega)
  unfold wpX_writePipe
  dsimp only
  rw [e]
  exact ⟨hi, br_f h11 ⟨hi, br_t h14 hp⟩⟩
/-- writePipe of a ring that starts at place s and has n bytes, n + s < 6 -/
theorem dt_wp_ok {post : Int32 → St2 → Prop} (q s n : Nat) (v : Int32) (hq : q < 24) (hs : s + n < 6) (h11 : ¬ a11 q = 0) (h13 : a13 q = nI s) (h14 : a14 q = nI n) (hp : post 0 (l, a1, a2, a3, a4, a5, a6, a7, a8, a9, a10, a11, a12, a13, upd a14 q (nI (n + 1)), upd a15 (6 * q + (s + n)) v)) : wpX_writePipe post (l, a1, a2, a3, a4, a5, a6, a7, a8, a9, a10, a11, a12, a13, a14, a15) (nI q) v := by
  have e : (nI q).toNatClampNeg = q := nI_clamp (by omega)
  have hi : vp_in (nI q) 24 := vp_in_nI hq (by omega)
  unfold wpX_writePipe
  dsimp only
  rw [e]
  refine ⟨hi, br_f h11 ⟨hi, br_f (by rw [h14]; exact fun z => absurd ((nI_eq (b := 6) (by omega) (by omega)).mp z) (by omega)) ⟨hi, hi, nm_r (by rw [h13, h14, nI_add]) (br_t (nI_lt (b := 6) hs (by decide)) ?_)⟩⟩⟩
  unfold wX_writePipe_62
  exact ⟨pk_in (6 * q + (s + n)) 144 (by omega) (dt_ix q (s + n)), nm_r (by rw [pk_cl (6 * q + (s + n)) (dt_ix q (s + n)) (by omega)]) ⟨hi, hi, nm_r (by rw [e, h14, nI_1]) hp⟩⟩
/-- writeFile at the end of the file, at offset s -/
theorem dt_wf_ok {post : Int32 → St2 → Prop} (o f s : Nat) (v : Int32) (ho : o < 24) (hf : f < 28) (hs : s < 8) (h5 : a5 o = nI f) (h6 : a6 o = nI s) (h9 : a9 f = nI s) (hp : post 0 (l, a1, a2, a3, a4, a5, upd a6 o (nI (s + 1)), a7, a8, upd a9 f (nI (s + 1)), upd a10 (8 * f + s) v, a11, a12, a13, a14, a15)) : wpX_writeFile post (l, a1, a2, a3, a4, a5, a6, a7, a8, a9, a10, a11, a12, a13, a14, a15) (nI o) v := by
  have e : (nI o).toNatClampNeg = o := nI_clamp (by omega)
  have e2 : (nI f).toNatClampNeg = f := nI_clamp (by omega)
  have hi : vp_in (nI o) 24 := vp_in_nI ho (by omega)
  have hj : vp_in (nI f) 28 := vp_in_nI hf (by omega)
  unfold wpX_writeFile
  dsimp only
  rw [e]
  exact ⟨hi, nm_r h5 ⟨hi, nm_r h6 (br_t (nI_lt (b := 8) hs (by decide)) ⟨pk_in (8 * f + s) 224 (by omega) (dt_ix8 f s), nm_r (by rw [pk_cl (8 * f + s) (dt_ix8 f s) (by omega)]) ⟨hi, nm_r (by rw [nI_1]) ⟨hj, br_t (by rw [e2, h9]) ⟨hj, nm_r (by rw [e2, nI_1]) hp⟩⟩⟩⟩)⟩⟩
/-- read: no such descriptor -/
theorem dt_rd_bad {post : Int32 → St2 → Prop} (p d : Nat) (hp : p < 4) (hd : d < 6) (h1 : ¬ a1 p = 0) (h2 : a2 (6 * p + d) = (-1)) (hq : post (-1) (l, a1, a2, a3, a4, a5, a6, a7, a8, a9, a10, a11, a12, a13, a14, a15)) : wpX_read post (l, a1, a2, a3, a4, a5, a6, a7, a8, a9, a10, a11, a12, a13, a14, a15) (nI p) (nI d) := by
  unfold wpX_read
  exact dt_op p d (-1) hp hd h1 h2 (br_t (by decide) hq)
/-- read of a writing end -/
theorem dt_rd_w {post : Int32 → St2 → Prop} (p d o : Nat) (hp : p < 4) (hd : d < 6) (h1 : ¬ a1 p = 0) (h2 : a2 (6 * p + d) = nI o) (ho : o < 24) (h4 : a4 o = 3) (hq : post (-1) (l, a1, a2, a3, a4, a5, a6, a7, a8, a9, a10, a11, a12, a13, a14, a15)) : wpX_read post (l, a1, a2, a3, a4, a5, a6, a7, a8, a9, a10, a11, a12, a13, a14, a15) (nI p) (nI d) := by
  unfold wpX_read
  exact dt_op p d (nI o) hp hd h1 h2 (br_f (nI_pos (by omega)) ⟨vp_in_nI ho (by omega), br_t (by rw [nI_clamp (by omega)]; exact h4) hq⟩)
/-- read of an empty pipe that has a writer -/
theorem dt_rd_wait {post : Int32 → St2 → Prop} (p d o q : Nat) (hp : p < 4) (hd : d < 6) (h1 : ¬ a1 p = 0) (h2 : a2 (6 * p + d) = nI o) (ho : o < 24) (h4 : a4 o = 2) (h5 : a5 o = nI q) (hq : q < 24)
    (h14 : a14 q = 0) (h12 : ¬ a12 q = 0) (hP : post (-4) (l, a1, a2, a3, a4, a5, a6, a7, a8, a9, a10, a11, a12, a13, a14, a15)) : wpX_read post (l, a1, a2, a3, a4, a5, a6, a7, a8, a9, a10, a11, a12, a13, a14, a15) (nI p) (nI d) := by
  have e : (nI o).toNatClampNeg = o := nI_clamp (by omega)
  have hi : vp_in (nI o) 24 := vp_in_nI ho (by omega)
  unfold wpX_read
  refine dt_op p d (nI o) hp hd h1 h2 (br_f (nI_pos (by omega)) ⟨hi, br_f (by rw [e, h4]; decide) ⟨hi, br_f (by rw [e, h4]; decide) ⟨hi, ?_⟩⟩⟩)
  rw [e, h5]
  exact dt_rp_wait q hq h14 h12 hP
/-- read of an empty pipe that has none -/
theorem dt_rd_end {post : Int32 → St2 → Prop} (p d o q : Nat) (hp : p < 4) (hd : d < 6) (h1 : ¬ a1 p = 0) (h2 : a2 (6 * p + d) = nI o) (ho : o < 24) (h4 : a4 o = 2) (h5 : a5 o = nI q) (hq : q < 24)
    (h14 : a14 q = 0) (h12 : a12 q = 0) (hP : post (-5) (l, a1, a2, a3, a4, a5, a6, a7, a8, a9, a10, a11, a12, a13, a14, a15)) : wpX_read post (l, a1, a2, a3, a4, a5, a6, a7, a8, a9, a10, a11, a12, a13, a14, a15) (nI p) (nI d) := by
  have e : (nI o).toNatClampNeg = o := nI_clamp (by omega)
  have hi : vp_in (nI o) 24 := vp_in_nI ho (by omega)
  unfold wpX_read
  refine dt_op p d (nI o) hp hd h1 h2 (br_f (nI_pos (by omega)) ⟨hi, br_f (by rw [e, h4]; decide) ⟨hi, br_f (by rw [e, h4]; decide) ⟨hi, ?_⟩⟩⟩)
  rw [e, h5]
  exact dt_rp_end q hq h14 h12 hP
/-- read of a pipe that has n + 1 bytes from place s on -/
theorem dt_rd_val {post : Int32 → St2 → Prop} (p d o q s n : Nat) (hp : p < 4) (hd : d < 6) (h1 : ¬ a1 p = 0) (h2 : a2 (6 * p + d) = nI o) (ho : o < 24) (h4 : a4 o = 2) (h5 : a5 o = nI q) (hq : q < 24)
    (hs : s < 6) (hn : n < 6) (h14 : a14 q = nI (n + 1)) (h13 : a13 q = nI s) (hP : post (a15 (6 * q + s)) (l, a1, a2, a3, a4, a5, a6, a7, a8, a9, a10, a11, a12, upd a13 q (nI (if s = 5 then 0 else s + 1)), upd a14 q (nI n), a15)) : wpX_read post (l, a1, a2, a3, a4, a5, a6, a7, a8, a9, a10, a11, a12, a13, a14, a15) (nI p) (nI d) := by
  have e : (nI o).toNatClampNeg = o := nI_clamp (by omega)
  have hi : vp_in (nI o) 24 := vp_in_nI ho (by omega)
  unfold wpX_read
  refine dt_op p d (nI o) hp hd h1 h2 (br_f (nI_pos (by omega)) ⟨hi, br_f (by rw [e, h4]; decide) ⟨hi, br_f (by rw [e, h4]; decide) ⟨hi, ?_⟩⟩⟩)
  rw [e, h5]
  exact dt_rp_val q s n hq hs h14 hn h13 hP
/-- read at the end of a file -/
theorem dt_rd_fend {post : Int32 → St2 → Prop} (p d o f : Nat) (hp : p < 4) (hd : d < 6) (h1 : ¬ a1 p = 0) (h2 : a2 (6 * p + d) = nI o) (ho : o < 24) (h4 : a4 o = 1) (h5 : a5 o = nI f) (hf : f < 28)
    (h : ¬ a6 o < a9 f) (hP : post (-5) (l, a1, a2, a3, a4, a5, a6, a7, a8, a9, a10, a11, a12, a13, a14, a15)) : wpX_read post (l, a1, a2, a3, a4, a5, a6, a7, a8, a9, a10, a11, a12, a13, a14, a15) (nI p) (nI d) := by
  have e : (nI o).toNatClampNeg = o := nI_clamp (by omega)
  have hi : vp_in (nI o) 24 := vp_in_nI ho (by omega)
  unfold wpX_read
  exact dt_op p d (nI o) hp hd h1 h2 (br_f (nI_pos (by omega)) ⟨hi, br_f (by rw [e, h4]; decide) ⟨hi, br_t (by rw [e, h4]) (dt_rf_end o f ho hf h5 h hP)⟩⟩)
/-- read of a byte of a file, at offset s -/
theorem dt_rd_fval {post : Int32 → St2 → Prop} (p d o f s : Nat) (hp : p < 4) (hd : d < 6) (h1 : ¬ a1 p = 0) (h2 : a2 (6 * p + d) = nI o) (ho : o < 24) (h4 : a4 o = 1) (h5 : a5 o = nI f) (hf : f < 28)
    (hs : s < 8) (h6 : a6 o = nI s) (h : nI s < a9 f) (hP : post (a10 (8 * f + s)) (l, a1, a2, a3, a4, a5, upd a6 o (nI (s + 1)), a7, a8, a9, a10, a11, a12, a13, a14, a15)) : wpX_read post (l, a1, a2, a3, a4, a5, a6, a7, a8, a9, a10, a11, a12, a13, a14, a15) (nI p) (nI d) := by
  have e : (nI o).toNatClampNeg = o := nI_clamp (by omega)
  have hi : vp_in (nI o) 24 := vp_in_nI ho (by omega)
  unfold wpX_read
  exact dt_op p d (nI o) hp hd h1 h2 (br_f (nI_pos (by omega)) ⟨hi, br_f (by rw [e, h4]; decide) ⟨hi, br_t (by rw [e, h4]) (dt_rf_val o f s ho hf hs h5 h6 h hP)⟩⟩)
/-- write to a reading end -/
theorem dt_wr_r {post : Int32 → St2 → Prop} (p d o : Nat) (v : Int32) (hp : p < 4) (hd : d < 6) (h1 : ¬ a1 p = 0) (h2 : a2 (6 * p + d) = nI o) (ho : o < 24) (h4 : a4 o = 2) (hq : post (-1) (l, a1, a2, a3, a4, a5, a6, a7, a8, a9, a10, a11, a12, a13, a14, a15)) : wpX_write post (l, a1, a2, a3, a4, a5, a6, a7, a8, a9, a10, a11, a12, a13, a14, a15) (nI p) (nI d) v := by
  unfold wpX_write
  exact dt_op p d (nI o) hp hd h1 h2 (br_f (nI_pos (by omega)) ⟨vp_in_nI ho (by omega), br_t (by rw [nI_clamp (by omega)]; exact h4) hq⟩)
/-- write to a pipe that has no reader -/
theorem dt_wr_brk {post : Int32 → St2 → Prop} (p d o q : Nat) (v : Int32) (hp : p < 4) (hd : d < 6) (h1 : ¬ a1 p = 0) (h2 : a2 (6 * p + d) = nI o) (ho : o < 24) (h4 : a4 o = 3) (h5 : a5 o = nI q) (hq : q < 24)
    (h11 : a11 q = 0) (hP : post (-3) (l, a1, a2, a3, a4, a5, a6, a7, a8, a9, a10, a11, a12, a13, a14, a15)) : wpX_write post (l, a1, a2, a3, a4, a5, a6, a7, a8, a9, a10, a11, a12, a13, a14, a15) (nI p) (nI d) v := by
  have e : (nI o).toNatClampNeg = o := nI_clamp (by omega)
  have hi : vp_in (nI o) 24 := vp_in_nI ho (by omega)
  unfold wpX_write
  refine dt_op p d (nI o) hp hd h1 h2 (br_f (nI_pos (by omega)) ⟨hi, br_f (by rw [e, h4]; decide) ⟨hi, br_f (by rw [e, h4]; decide) ⟨hi, ?_⟩⟩⟩)
  rw [e, h5]
  exact dt_wp_brk q _ hq h11 hP
/-- write to a full pipe -/
theorem dt_wr_wait {post : Int32 → St2 → Prop} (p d o q : Nat) (v : Int32) (hp : p < 4) (hd : d < 6) (h1 : ¬ a1 p = 0) (h2 : a2 (6 * p + d) = nI o) (ho : o < 24) (h4 : a4 o = 3) (h5 : a5 o = nI q) (hq : q < 24)
    (h11 : ¬ a11 q = 0) (h14 : a14 q = 6) (hP : post (-4) (l, a1, a2, a3, a4, a5, a6, a7, a8, a9, a10, a11, a12, a13, a14, a15)) : wpX_write post (l, a1, a2, a3, a4, a5, a6, a7, a8, a9, a10, a11, a12, a13, a14, a15) (nI p) (nI d) v := by
  have e : (nI o).toNatClampNeg = o := nI_clamp (by omega)
  have hi : vp_in (nI o) 24 := vp_in_nI ho (by omega)
  unfold wpX_write
  refine dt_op p d (nI o) hp hd h1 h2 (br_f (nI_pos (by omega)) ⟨hi, br_f (by rw [e, h4]; decide) ⟨hi, br_f (by rw [e, h4]; decide) ⟨hi, ?_⟩⟩⟩)
  rw [e, h5]
  exact dt_wp_wait q _ hq h11 h14 hP
/-- write to a pipe with n bytes from place s on -/
theorem dt_wr_ok {post : Int32 → St2 → Prop} (p d o q s n : Nat) (v : Int32) (hp : p < 4) (hd : d < 6) (h1 : ¬ a1 p = 0) (h2 : a2 (6 * p + d) = nI o) (ho : o < 24) (h4 : a4 o = 3) (h5 : a5 o = nI q) (hq : q < 24)
    (hs : s + n < 6) (h11 : ¬ a11 q = 0) (h13 : a13 q = nI s) (h14 : a14 q = nI n) (hP : post 0 (l, a1, a2, a3, a4, a5, a6, a7, a8, a9, a10, a11, a12, a13, upd a14 q (nI (n + 1)), upd a15 (6 * q + (s + n)) (v &&& 255))) : wpX_write post (l, a1, a2, a3, a4, a5, a6, a7, a8, a9, a10, a11, a12, a13, a14, a15) (nI p) (nI d) v := by
  have e : (nI o).toNatClampNeg = o := nI_clamp (by omega)
  have hi : vp_in (nI o) 24 := vp_in_nI ho (by omega)
  unfold wpX_write
  refine dt_op p d (nI o) hp hd h1 h2 (br_f (nI_pos (by omega)) ⟨hi, br_f (by rw [e, h4]; decide) ⟨hi, br_f (by rw [e, h4]; decide) ⟨hi, ?_⟩⟩⟩)
  rw [e, h5]
  exact dt_wp_ok q s n _ hq hs h11 h13 h14 hP
/-- write at the end of a file, at offset s -/
theorem dt_wr_file {post : Int32 → St2 → Prop} (p d o f s : Nat) (v : Int32) (hp : p < 4) (hd : d < 6) (h1 : ¬ a1 p = 0) (h2 : a2 (6 * p + d) = nI o) (ho : o < 24) (h4 : a4 o = 1) (h5 : a5 o = nI f) (hf : f < 28)
    (hs : s < 8) (h6 : a6 o = nI s) (h9 : a9 f = nI s) (hP : post 0 (l, a1, a2, a3, a4, a5, upd a6 o (nI (s + 1)), a7, a8, upd a9 f (nI (s + 1)), upd a10 (8 * f + s) (v &&& 255), a11, a12, a13, a14, a15)) : wpX_write post (l, a1, a2, a3, a4, a5, a6, a7, a8, a9, a10, a11, a12, a13, a14, a15) (nI p) (nI d) v := by
  have e : (nI o).toNatClampNeg = o := nI_clamp (by omega)
  have hi : vp_in (nI o) 24 := vp_in_nI ho (by omega)
  unfold wpX_write
  exact dt_op p d (nI o) hp hd h1 h2 (br_f (nI_pos (by omega)) ⟨hi, br_f (by rw [e, h4]; decide) ⟨hi, br_t (by rw [e, h4]) (dt_wf_ok o f s _ ho hf hs h5 h6 h9 hP)⟩⟩)
end
end
section
section
variable {l : Int32} {a1 a2 a3 a4 a5 a6 a7 a8 a9 a10 a11 a12 a13 a14 a15 : Nat → Int32}
/-- pipe: descriptors r and w, pipe q, openings o1 and o2 -/
theorem dt_pipe {post : Int32 → St2 → Prop} (p r w q o1 o2 : Nat) (hp : p < 4) (h1 : ¬ a1 p = 0) (hrw : r < w) (hw : w < 6)
    (hr : ∀ j, j < r → 0 ≤ j → 0 ≤ a2 (6 * p + j)) (hr2 : ¬ 0 ≤ a2 (6 * p + r)) (hw1 : ∀ j, j < w → r + 1 ≤ j → 0 ≤ a2 (6 * p + j)) (hw2 : ¬ 0 ≤ a2 (6 * p + w))
    (hq : dt_lo (dt_pf a11 a12) 24 0 = q) (ho1 : dt_lo (dt_zf a3) 24 0 = o1) (ho2 : dt_lo (dt_zf (upd a3 o1 1)) 24 0 = o2)
    (hP : post (nI (8 * r + w)) (l, a1, upd (upd a2 (6 * p + r) (nI o1)) (6 * p + w) (nI o2), upd (upd a3 o1 1) o2 1, upd (upd a4 o1 2) o2 3, upd (upd a5 o1 (nI q)) o2 (nI q), upd (upd a6 o1 0) o2 0, a7, a8, a9, a10, upd a11 q 1, upd a12 q 1, upd a13 q 0, upd a14 q 0, a15)) :
    wpX_pipe post (l, a1, a2, a3, a4, a5, a6, a7, a8, a9, a10, a11, a12, a13, a14, a15) (nI p) := by
  have hq24 : q < 24 := by rw [← hq]; exact dt_lo_lt _ 24 24 0 (by omega) (by omega)
  have e : (nI q).toNatClampNeg = q := nI_clamp (by omega)
  have hi : vp_in (nI q) 24 := vp_in_nI hq24 (by omega)
  unfold wpX_pipe
  refine dt_alive p hp h1 (br_f (by decide) (dt_fd p 0 r hp (by omega) (by omega) hr hr2 (br_t (nI_pos' (by omega)) ?_)))
  rw [nI_1]
  refine dt_fd p (r + 1) w hp (by omega) hw hw1 hw2 ?_
  unfold wX_pipe_33
  refine br_t (nI_pos' (by omega)) (dt_fp q hq ⟨hi, nm_r (by rw [e]) ⟨hi, nm_r (by rw [e]) ⟨hi, nm_r (by rw [e]) ⟨hi, nm_r (by rw [e]) (dt_no o1 2 (nI q) ho1 ⟨pk_in (6 * p + r) 24 (by omega) (dt_ix p r), nm_r (by rw [pk_cl (6 * p + r) (dt_ix p r) (by omega)]) (dt_no o2 3 (nI q) ho2 ⟨pk_in (6 * p + w) 24 (by omega) (dt_ix p w), nm_r (by rw [pk_cl (6 * p + w) (dt_ix p w) (by omega)]) ?_⟩)⟩)⟩⟩⟩⟩)
  rw [dt_ix8]
  exact hP
/-- dup, to descriptor k -/
theorem dt_dup {post : Int32 → St2 → Prop} (p d o k : Nat) (v : Int32) (hp : p < 4) (hd : d < 6) (h1 : ¬ a1 p = 0) (h2 : a2 (6 * p + d) = nI o) (ho : o < 24) (hk : k < 6)
    (hk1 : ∀ j, j < k → 0 ≤ j → 0 ≤ a2 (6 * p + j)) (hk2 : ¬ 0 ≤ a2 (6 * p + k)) (hv : a3 o + 1 = v) (hP : post (nI k) (l, a1, upd a2 (6 * p + k) (nI o), upd a3 o v, a4, a5, a6, a7, a8, a9, a10, a11, a12, a13, a14, a15)) : wpX_dup post (l, a1, a2, a3, a4, a5, a6, a7, a8, a9, a10, a11, a12, a13, a14, a15) (nI p) (nI d) := by
  have e : (nI o).toNatClampNeg = o := nI_clamp (by omega)
  have hi : vp_in (nI o) 24 := vp_in_nI ho (by omega)
  unfold wpX_dup
  exact dt_op p d (nI o) hp hd h1 h2 (br_t (nI_pos' (by omega)) (dt_fd p 0 k hp (by omega) hk hk1 hk2 (br_t (nI_pos' (by omega)) ⟨pk_in (6 * p + k) 24 (by omega) (dt_ix p k), nm_r (by rw [pk_cl (6 * p + k) (dt_ix p k) (by omega)]) ⟨hi, hi, nm_r (by rw [e, hv]) hP⟩⟩)))
/-- fork's loop: a step over a free descriptor -/
theorem dt_fk_n {post : Int32 → St2 → Prop} {n : Nat} (p c i : Nat) (hp : p < 4) (hc : c < 4) (hi : i < 6) (h2 : a2 (6 * p + i) = (-1)) (hq : wX_fork_69 post (nI p) (nI c) l n (nI (i + 1)) a1 (upd a2 (6 * c + i) (-1)) a3 a4 a5 a6 a7 a8 a9 a10 a11 a12 a13 a14 a15) : wX_fork_69 post (nI p) (nI c) l (n + 1) (nI i) a1 a2 a3 a4 a5 a6 a7 a8 a9 a10 a11 a12 a13 a14 a15 :=
  br_f (nI_ge (b := 6) hi (by decide)) ⟨pk_in (6 * p + i) 24 (by omega) (dt_ix p i), nm_r (e' := (-1 : Int32)) (by rw [pk_cl (6 * p + i) (dt_ix p i) (by omega)]; exact h2) ⟨pk_in (6 * c + i) 24 (by omega) (dt_ix c i), nm_r (by rw [pk_cl (6 * c + i) (dt_ix c i) (by omega)]) (br_t (by decide) (nm_r (nI_1 i) hq))⟩⟩
/-- fork's loop: a step over a descriptor of opening o -/
theorem dt_fk_o {post : Int32 → St2 → Prop} {n : Nat} (p c i o : Nat) (v : Int32) (hp : p < 4) (hc : c < 4) (hi : i < 6) (h2 : a2 (6 * p + i) = nI o) (ho : o < 24) (hv : a3 o + 1 = v) (hq : wX_fork_69 post (nI p) (nI c) l n (nI (i + 1)) a1 (upd a2 (6 * c + i) (nI o)) (upd a3 o v) a4 a5 a6 a7 a8 a9 a10 a11 a12 a13 a14 a15) : wX_fork_69 post (nI p) (nI c) l (n + 1) (nI i) a1 a2 a3 a4 a5 a6 a7 a8 a9 a10 a11 a12 a13 a14 a15 := by
  have e : (nI o).toNatClampNeg = o := nI_clamp (by omega)
  have hj : vp_in (nI o) 24 := vp_in_nI ho (by omega)
  exact br_f (nI_ge (b := 6) hi (by decide)) ⟨pk_in (6 * p + i) 24 (by omega) (dt_ix p i), nm_r (by rw [pk_cl (6 * p + i) (dt_ix p i) (by omega)]; exact h2) ⟨pk_in (6 * c + i) 24 (by omega) (dt_ix c i), nm_r (by rw [pk_cl (6 * c + i) (dt_ix c i) (by omega)]) (br_f (nI_pos (by omega)) ⟨hj, hj, nm_r (by rw [e, hv]) (nm_r (nI_1 i) hq)⟩)⟩⟩
theorem dt_fk_e {post : Int32 → St2 → Prop} {n : Nat} {p c : Int32} (hq : post c (l, a1, a2, a3, a4, a5, a6, a7, a8, a9, a10, a11, a12, a13, a14, a15)) : wX_fork_69 post p c l (n + 1) (nI 6) a1 a2 a3 a4 a5 a6 a7 a8 a9 a10 a11 a12 a13 a14 a15 :=
  br_t (nI_le (Nat.le_refl 6) (by decide)) hq
theorem dt_fk25 {post : Int32 → St2 → Prop} {x1 : Int32} : ∀ m r, m ≤ 4 → r < 4 → (∀ c, c = dt_lo (dt_zf a1) m r → ∃ fu, wX_fork_69 post x1 (nI c) (l + 1) fu 0 (upd a1 c 1) a2 a3 a4 a5 a6 a7 a8 a9 a10 a11 a12 a13 a14 a15) → wX_fork_25 post x1 l a1 a2 a3 a4 a5 a6 a7 a8 a9 a10 a11 a12 a13 a14 a15 (m + 1) (nI r) (nI m + (-1)) := by
  intro m
  induction m with
  | zero =>
    intro r _ hr hq
    exact br_t (by decide) ⟨vp_in_nI hr (by omega), nm_r (by rw [nI_clamp (by omega)]) (nm_e (hq r rfl))⟩
  | succ m ih =>
    intro r hm hr hq
    rw [pk_m1]
    have e : (nI m).toNatClampNeg = m := nI_clamp (by omega)
    refine br_f (nI_pos (by omega)) ⟨vp_in_nI (by omega) (by omega), ?_⟩
    rw [e]
    by_cases h1 : a1 m = 0
    · exact br_t h1 (nm_e (ih m (by omega) (by omega) (by rw [dt_lo_t (by unfold dt_zf; exact decide_eq_true h1)] at hq; exact hq)))
    · exact br_f h1 (nm_e (ih r (by omega) hr (by rw [dt_lo_f (by unfold dt_zf; exact decide_eq_false h1)] at hq; exact hq)))
/-- fork, up to its loop -/
theorem dt_fork {post : Int32 → St2 → Prop} (p c : Nat) (v : Int32) (hp : p < 4) (h1 : ¬ a1 p = 0) (hl : ¬ l = 4) (hv : l + 1 = v) (hc : dt_lo (dt_zf a1) 4 0 = c) (hq : ∃ fu, wX_fork_69 post (nI p) (nI c) v fu 0 (upd a1 c 1) a2 a3 a4 a5 a6 a7 a8 a9 a10 a11 a12 a13 a14 a15) : wpX_fork post (l, a1, a2, a3, a4, a5, a6, a7, a8, a9, a10, a11, a12, a13, a14, a15) (nI p) := by
  unfold wpX_fork
  refine dt_alive p hp h1 (br_f (by decide) (br_f hl ⟨5, ?_⟩))
  exact dt_fk25 4 0 (by omega) (by omega) (fun j hj => by rw [hj, hc, hv]; exact hq)
/-- exit's loop: a step over a free descriptor -/
theorem dt_ex_n {post : Int32 → St2 → Prop} {n : Nat} (p i : Nat) (hp : p < 4) (hi : i < 6) (h2 : a2 (6 * p + i) = (-1)) (hq : wX_exit_20 post (nI p) n (nI (i + 1)) l a1 a2 a3 a4 a5 a6 a7 a8 a9 a10 a11 a12 a13 a14 a15) : wX_exit_20 post (nI p) (n + 1) (nI i) l a1 a2 a3 a4 a5 a6 a7 a8 a9 a10 a11 a12 a13 a14 a15 :=
  br_f (nI_ge (b := 6) hi (by decide)) ⟨pk_in (6 * p + i) 24 (by omega) (dt_ix p i), nm_r (e' := (-1 : Int32)) (by rw [pk_cl (6 * p + i) (dt_ix p i) (by omega)]; exact h2) (br_t (by decide) (nm_r (nI_1 i) hq))⟩
/-- exit's loop: a step over the last descriptor of a reading end -/
theorem dt_ex_rd {post : Int32 → St2 → Prop} {n : Nat} (p i o q : Nat) (v : Int32) (hp : p < 4) (hi : i < 6) (h2 : a2 (6 * p + i) = nI o) (ho : o < 24) (hv : a3 o - 1 = v) (hv0 : v ≤ 0) (h4 : a4 o = 2) (h5 : a5 o = nI q) (hf : q < 24)
    (hq : wX_exit_20 post (nI p) n (nI (i + 1)) l a1 (upd a2 (6 * p + i) (-1)) (upd a3 o v) a4 a5 a6 a7 a8 a9 a10 (upd a11 q 0) a12 a13 a14 a15) : wX_exit_20 post (nI p) (n + 1) (nI i) l a1 a2 a3 a4 a5 a6 a7 a8 a9 a10 a11 a12 a13 a14 a15 :=
  br_f (nI_ge (b := 6) hi (by decide)) ⟨pk_in (6 * p + i) 24 (by omega) (dt_ix p i), nm_r (by rw [pk_cl (6 * p + i) (dt_ix p i) (by omega)]; exact h2) (br_f (nI_pos (by omega)) ⟨pk_in (6 * p + i) 24 (by omega) (dt_ix p i), nm_r (by rw [pk_cl (6 * p + i) (dt_ix p i) (by omega)]) (dt_lg_rd o q v ho hv hv0 h4 h5 hf (nm_r (nI_1 i) hq))⟩)⟩
theorem dt_ex_e {post : Int32 → St2 → Prop} {n : Nat} (p : Nat) (v : Int32) (hp : p < 4) (hv : l - 1 = v) (hq : post 0 (v, upd a1 p 0, a2, a3, a4, a5, a6, a7, a8, a9, a10, a11, a12, a13, a14, a15)) : wX_exit_20 post (nI p) (n + 1) (nI 6) l a1 a2 a3 a4 a5 a6 a7 a8 a9 a10 a11 a12 a13 a14 a15 :=
  br_t (nI_le (Nat.le_refl 6) (by decide)) ⟨vp_in_nI hp (by omega), nm_r (by rw [nI_clamp (by omega)]) (nm_r hv hq)⟩
/-- exit, up to its loop -/
theorem dt_exit {post : Int32 → St2 → Prop} (p : Nat) (hp : p < 4) (h1 : ¬ a1 p = 0) (hl : ¬ l = 1) (hq : ∃ fu, wX_exit_20 post (nI p) fu 0 l a1 a2 a3 a4 a5 a6 a7 a8 a9 a10 a11 a12 a13 a14 a15) : wpX_exit post (l, a1, a2, a3, a4, a5, a6, a7, a8, a9, a10, a11, a12, a13, a14, a15) (nI p) := by
  unfold wpX_exit
  exact dt_alive p hp h1 (br_f (by decide) (br_f hl hq))
/-- isName -/
theorem dt_name {post : Int32 → Prop} (n : Nat) (hn : n < 4) (hq : post 1) : wpX_isName post () (nI n) := by
  unfold wpX_isName
  exact br_f (nI_pos (by omega)) (br_f (nI_nlt (a := 3) (b := n) (by omega) (by decide)) hq)
theorem dt_nname {post : Int32 → Prop} {x : Int32} (hx : x < 0 ∨ 3 < x) (hq : post 0) : wpX_isName post () x := by
  unfold wpX_isName
  refine br_c (fun _ => hq) (fun h => br_t ?_ hq)
  rcases hx with h' | h'
  · exact absurd h' h
  · exact h'
/-- open of what is no name -/
theorem dt_open_bad {post : Int32 → St2 → Prop} {x : Int32} (p : Nat) (hp : p < 4) (h1 : ¬ a1 p = 0) (hx : x < 0 ∨ 3 < x) (hq : post (-1) (l, a1, a2, a3, a4, a5, a6, a7, a8, a9, a10, a11, a12, a13, a14, a15)) : wpX_open post (l, a1, a2, a3, a4, a5, a6, a7, a8, a9, a10, a11, a12, a13, a14, a15) (nI p) x := by
  unfold wpX_open
  exact dt_alive p hp h1 (br_f (by decide) (dt_nname hx (br_t rfl hq)))
/-- open of a new file f, at descriptor d, as opening o -/
theorem dt_open {post : Int32 → St2 → Prop} (p n d f o : Nat) (hp : p < 4) (h1 : ¬ a1 p = 0) (hn : n < 4) (hd : d < 6) (hd1 : ∀ j, j < d → 0 ≤ j → 0 ≤ a2 (6 * p + j)) (hd2 : ¬ 0 ≤ a2 (6 * p + d))
    (h7 : a7 n = (-1)) (hf : dt_lo (dt_zf a8) 28 0 = f) (ho : dt_lo (dt_zf a3) 24 0 = o)
    (hq : post (nI d) (l, a1, upd a2 (6 * p + d) (nI o), upd a3 o 1, upd a4 o 1, upd a5 o (nI f), upd a6 o 0, upd a7 n (nI f), upd (upd a8 f 1) f 2, upd a9 f 0, a10, a11, a12, a13, a14, a15)) : wpX_open post (l, a1, a2, a3, a4, a5, a6, a7, a8, a9, a10, a11, a12, a13, a14, a15) (nI p) (nI n) := by
  have hf28 : f < 28 := by rw [← hf]; exact dt_lo_lt _ 28 28 0 (by omega) (by omega)
  have e : (nI n).toNatClampNeg = n := nI_clamp (by omega)
  have e2 : (nI f).toNatClampNeg = f := nI_clamp (by omega)
  have hi : vp_in (nI n) 4 := vp_in_nI hn (by omega)
  have hj : vp_in (nI f) 28 := vp_in_nI hf28 (by omega)
  unfold wpX_open
  refine dt_alive p hp h1 (br_f (by decide) (dt_name n hn (br_f (by decide) (dt_fd p 0 d hp (by omega) hd hd1 hd2 (br_t (nI_pos' (by omega)) ⟨hi, br_f (by rw [e, h7]; decide) (dt_ff f hf ⟨hi, nm_r (by rw [e]) ⟨hj, nm_r (by rw [e2]) ⟨hj, nm_r (by rw [e2]) ?_⟩⟩⟩)⟩)))))
  unfold wX_open_70
  rw [e, pk_us, e2, pk_us]
  exact ⟨hi, hj, hj, nm_r (by rw [show (1 : Int32) + 1 = 2 by decide]) ⟨hi, dt_no o 1 (nI f) ho ⟨pk_in (6 * p + d) 24 (by omega) (dt_ix p d), nm_r (by rw [pk_cl (6 * p + d) (dt_ix p d) (by omega)]) hq⟩⟩⟩
/-- link of name n's file f to the free name m -/
theorem dt_link {post : Int32 → St2 → Prop} (n m f : Nat) (v : Int32) (hn : n < 4) (hm : m < 4) (h7 : a7 n = nI f) (h7' : a7 m = (-1)) (hf : f < 28) (hv : a8 f + 1 = v) (hq : post 0 (l, a1, a2, a3, a4, a5, a6, upd a7 m (nI f), upd a8 f v, a9, a10, a11, a12, a13, a14, a15)) : wpX_link post (l, a1, a2, a3, a4, a5, a6, a7, a8, a9, a10, a11, a12, a13, a14, a15) (nI n) (nI m) := by
  have e : (nI n).toNatClampNeg = n := nI_clamp (by omega)
  have e1 : (nI m).toNatClampNeg = m := nI_clamp (by omega)
  have e2 : (nI f).toNatClampNeg = f := nI_clamp (by omega)
  have hi : vp_in (nI n) 4 := vp_in_nI hn (by omega)
  have hi2 : vp_in (nI m) 4 := vp_in_nI hm (by omega)
  have hj : vp_in (nI f) 28 := vp_in_nI hf (by omega)
  unfold wpX_link
  refine dt_name n hn (br_f (by decide) (dt_name m hm (br_f (by decide) ⟨hi, br_f (by rw [e, h7]; exact nI_pos (by omega)) ⟨hi2, br_t (by rw [e1, h7']; decide) ⟨hi, hi2, nm_r (by rw [e1, e, h7]) ⟨hi2, ?_⟩⟩⟩⟩)))
  rw [e1, pk_us, e2]
  exact ⟨hj, hj, nm_r (by rw [hv]) hq⟩
/-- link to a name that has a file -/
theorem dt_link_bad {post : Int32 → St2 → Prop} (n m f g : Nat) (hn : n < 4) (hm : m < 4) (h7 : a7 n = nI f) (h7' : a7 m = nI g) (hf : f < 28) (hg : g < 28) (hq : post (-1) (l, a1, a2, a3, a4, a5, a6, a7, a8, a9, a10, a11, a12, a13, a14, a15)) : wpX_link post (l, a1, a2, a3, a4, a5, a6, a7, a8, a9, a10, a11, a12, a13, a14, a15) (nI n) (nI m) := by
  have e : (nI n).toNatClampNeg = n := nI_clamp (by omega)
  have e1 : (nI m).toNatClampNeg = m := nI_clamp (by omega)
  have hi : vp_in (nI n) 4 := vp_in_nI hn (by omega)
  have hi2 : vp_in (nI m) 4 := vp_in_nI hm (by omega)
  unfold wpX_link
  exact dt_name n hn (br_f (by decide) (dt_name m hm (br_f (by decide) ⟨hi, br_f (by rw [e, h7]; exact nI_pos (by omega)) ⟨hi2, br_f (by rw [e1, h7']; exact nI_pos (by omega)) hq⟩⟩)))
theorem dt_unlink {post : Int32 → St2 → Prop} (n f : Nat) (v : Int32) (hn : n < 4) (h7 : a7 n = nI f) (hf : f < 28) (hv : a8 f - 1 = v) (hq : post 0 (l, a1, a2, a3, a4, a5, a6, upd a7 n (-1), upd a8 f v, a9, a10, a11, a12, a13, a14, a15)) : wpX_unlink post (l, a1, a2, a3, a4, a5, a6, a7, a8, a9, a10, a11, a12, a13, a14, a15) (nI n) := by
  have e : (nI n).toNatClampNeg = n := nI_clamp (by omega)
  have e2 : (nI f).toNatClampNeg = f := nI_clamp (by omega)
  have hi : vp_in (nI n) 4 := vp_in_nI hn (by omega)
  have hj : vp_in (nI f) 28 := vp_in_nI hf (by omega)
  unfold wpX_unlink
  dsimp only
  rw [e, h7, e2]
  exact dt_name n hn (br_f (by decide) ⟨hi, br_t (nI_pos' (by omega)) ⟨hi, hj, hj, nm_r (by rw [hv]) ⟨hi, nm_e hq⟩⟩⟩)
/-- seek to offset s -/
theorem dt_seek {post : Int32 → St2 → Prop} (p d s o f : Nat) (hp : p < 4) (hd : d < 6) (h1 : ¬ a1 p = 0) (h2 : a2 (6 * p + d) = nI o) (ho : o < 24) (h4 : a4 o = 1) (h5 : a5 o = nI f) (hf : f < 28) (hs : s < 8) (h9 : nI s ≤ a9 f) (hq : post 0 (l, a1, a2, a3, a4, a5, upd a6 o (nI s), a7, a8, a9, a10, a11, a12, a13, a14, a15)) : wpX_seek post (l, a1, a2, a3, a4, a5, a6, a7, a8, a9, a10, a11, a12, a13, a14, a15) (nI p) (nI d) (nI s) := by
  have e : (nI o).toNatClampNeg = o := nI_clamp (by omega)
  have e2 : (nI f).toNatClampNeg = f := nI_clamp (by omega)
  have hi : vp_in (nI o) 24 := vp_in_nI ho (by omega)
  have hj : vp_in (nI f) 28 := vp_in_nI hf (by omega)
  unfold wpX_seek
  refine dt_op p d (nI o) hp hd h1 h2 (br_f (nI_pos (by omega)) ⟨hi, br_t (by rw [e]; exact h4) (br_f (nI_pos (by omega)) ⟨hi, ?_⟩)⟩)
  rw [e, h5, e2]
  exact ⟨hj, br_t h9 ⟨hi, nm_e hq⟩⟩
end
end
section
theorem dt_i147 {post : St2 → Prop} {mc ms kc ks : Nat} {x : Int32} {b1 b2 b3 b4 b5 b6 b8 b9 b10 b11 b12 b13 b14 b15 : Nat → Int32} (hq : post (1, upd b1 0 1, b2, b3, b4, b5, b6, dt_neg 4, b8, b9, b10, b11, b12, b13, b14, b15)) :
    ∃ n, wX_init_147 post mc ms kc ks x n 0 b1 b2 b3 b4 b5 b6 (fun _ => 0) b8 b9 b10 b11 b12 b13 b14 b15 :=
  pk_loop (fun n i s => wX_init_147 post mc ms kc ks x n (nI i) b1 b2 b3 b4 b5 b6 s b8 b9 b10 b11 b12 b13 b14 b15) (fun i s => s = dt_neg i) 4 0 (fun _ => 0) (by omega) dt_neg_0.symm
    (fun n s hs => br_t (nI_le (Nat.le_refl 4) (by decide)) (nm_e (by rw [hs]; exact hq)))
    (fun n i s hi hs hw => br_f (nI_ge (b := 4) hi (by decide)) ⟨vp_in_nI hi (by omega), nm_r (by rw [nI_clamp (by omega), hs, dt_neg_s]) (nm_r (nI_1 i) (hw _ rfl))⟩)
theorem dt_i126 {post : St2 → Prop} {mc ms kc ks : Nat} {x : Int32} {b1 b3 b4 b5 b6 b8 b9 b10 b11 b12 b13 b14 b15 : Nat → Int32} (hq : post (1, upd b1 0 1, dt_neg 24, b3, b4, b5, b6, dt_neg 4, b8, b9, b10, b11, b12, b13, b14, b15)) :
    ∃ n, wX_init_126 post mc ms kc ks x n 0 b1 (fun _ => 0) b3 b4 b5 b6 (fun _ => 0) b8 b9 b10 b11 b12 b13 b14 b15 :=
  pk_loop (fun n i s => wX_init_126 post mc ms kc ks x n (nI i) b1 s b3 b4 b5 b6 (fun _ => 0) b8 b9 b10 b11 b12 b13 b14 b15) (fun i s => s = dt_neg i) 24 0 (fun _ => 0) (by omega) dt_neg_0.symm
    (fun n s hs => br_t (nI_le (Nat.le_refl 24) (by decide)) (dt_i147 (by rw [hs]; exact hq)))
    (fun n i s hi hs hw => br_f (nI_ge (b := 24) hi (by decide)) ⟨vp_in_nI hi (by omega), nm_r (by rw [nI_clamp (by omega), hs, dt_neg_s]) (nm_r (nI_1 i) (hw _ rfl))⟩)
/-- the constructor -/
theorem dt_init {post : St2 → Prop} {mc ms : Nat} {x : Int32} (hc : 15 ≤ mc) (hs : 648 ≤ ms) (hq : post (1, upd (fun _ => 0) 0 1, dt_neg 24, (fun _ => 0), (fun _ => 0), (fun _ => 0), (fun _ => 0), dt_neg 4, (fun _ => 0), (fun _ => 0), (fun _ => 0), (fun _ => 0), (fun _ => 0), (fun _ => 0), (fun _ => 0), (fun _ => 0))) : wpX_init post mc ms x := by
  unfold wpX_init
  refine ⟨by omega, by omega, by omega, by omega, by omega, by omega, by omega, by omega, by omega, by omega, by omega, by omega, by omega, by omega, by omega, by omega, by omega, by omega, by omega, by omega, by omega, by omega, by omega, by omega, by omega, by omega, by omega, by omega, by omega, by omega, ?_⟩
  exact dt_i126 hq
end
section
/-- no bytes, no counts -/
def ds_z : Nat → Int32 := fun _ => 0
/-- the tables ahead of the law's first loop -/
def ds_a1 : Nat → Int32 := upd (upd ds_z 0 1) 1 1
def ds_a2 : Nat → Int32 := upd (upd (upd (upd (upd (upd (upd (upd (upd (dt_neg 24) 0 0) 1 1) 6 0) 7 1) 8 (-1)) 9 (-1)) 10 (-1)) 11 (-1)) 7 (-1)
def ds_a3 : Nat → Int32 := upd (upd (upd (upd (upd ds_z 0 1) 1 1) 0 2) 1 2) 1 1
def ds_a4 : Nat → Int32 := upd (upd ds_z 0 2) 1 3
def ds_a5 : Nat → Int32 := upd (upd ds_z 0 0) 1 0
def ds_a11 : Nat → Int32 := upd ds_z 0 1
def ds_a13 : Nat → Int32 := upd ds_z 0 0
/-- behind it -/
def ds_b2 : Nat → Int32 := upd ds_a2 0 (-1)
def ds_b3 : Nat → Int32 := upd ds_a3 0 1
/-- in the second loop -/
def ds_c2 : Nat → Int32 := upd (upd ds_b2 0 1) 1 (-1)
def ds_c3 : Nat → Int32 := upd (upd ds_b3 1 2) 1 1
/-- behind exit -/
def ds_d1 : Nat → Int32 := upd ds_a1 1 0
def ds_d2 : Nat → Int32 := upd (upd (upd (upd (upd ds_c2 0 (-1)) 0 1) 1 2) 0 (-1)) 6 (-1)
def ds_d3 : Nat → Int32 := upd (upd (upd (upd (upd ds_c3 1 0) 1 1) 2 1) 1 0) 0 0
def ds_d4 : Nat → Int32 := upd (upd ds_a4 1 2) 2 3
def ds_d5 : Nat → Int32 := upd (upd ds_a5 1 1) 2 1
def ds_d6 : Nat → Int32 := upd (upd ds_a5 1 0) 2 0
def ds_d11 : Nat → Int32 := upd (upd (upd ds_a11 1 1) 1 0) 0 0
def ds_d12 : Nat → Int32 := upd (upd ds_a11 0 0) 1 1
/-- behind the first open -/
def ds_e2 : Nat → Int32 := upd ds_d2 0 0
def ds_e3 : Nat → Int32 := upd ds_d3 0 1
def ds_e4 : Nat → Int32 := upd ds_d4 0 1
def ds_e5 : Nat → Int32 := upd ds_d5 0 0
def ds_e6 : Nat → Int32 := upd ds_d6 0 0
def ds_e8 : Nat → Int32 := upd (upd ds_z 0 1) 0 2
def ds_e9 : Nat → Int32 := upd ds_z 0 0
/-- the value that the law writes in turn j -/
def ds_p (x0 x1 x2 : Int32) (j : Nat) : Int32 := if j = 0 then x0 else if j = 1 then x1 else x2
end
section
/-- the law's end, name is a name -/
theorem de_450 {post : Int32 → St0 → Prop} {mc ms kc ks : Nat} {x2 : Int32} {s13 s14 s15 : Nat → Int32} (n m : Nat) (hn : n < 4) (hm : m = (n + 1) % 4) (hP : post 1 ()) :
    wL_lawOf_450 post mc ms x2 (nI n) 1 0 (nI 0) kc ks 1 ds_d1 ds_e2 ds_e3 ds_e4 ds_e5 ds_e6 (upd (dt_neg 4) n (nI 0)) ds_e8 ds_e9 ds_z ds_d11 ds_d12 s13 s14 s15 := by
  have hm4 : m < 4 := by omega
  have hmn : m ≠ n := by omega
  have hnm : n ≠ m := by omega
  have hx : (nI n + 1) &&& 3 = nI m := by
    rw [nI_1, hm]
    exact pk_andN (by omega) 2 (by decide)
  have h7m : (dt_neg 4) m = (-1) := if_pos hm4
  unfold wL_lawOf_450
  refine br_t (by decide) (br_f (by decide) (nm_r hx ?_))
  refine dt_wr_file 0 0 0 0 0 x2 (by decide +kernel) (by decide +kernel) (by decide +kernel) (by decide +kernel) (by decide +kernel) (by decide +kernel) (by decide +kernel) (by decide +kernel) (by decide +kernel) (by decide +kernel) (by decide +kernel) (br_t rfl ?_)
  refine dt_link n m 0 3 hn hm4 pk_us (by rw [pk_un hmn]; exact h7m) (by decide +kernel) (by decide +kernel) (br_t rfl ?_)
  refine dt_link_bad n m 0 0 hn hm4 (by rw [pk_un hnm, pk_us]) pk_us (by decide +kernel) (by decide +kernel) (br_t rfl ?_)
  refine dt_unlink n 0 2 hn (by rw [pk_un hnm, pk_us]) (by decide +kernel) (by decide +kernel) (br_t rfl ?_)
  refine dt_unlink m 0 1 hm4 (by rw [pk_un hmn, pk_us]) (by decide +kernel) (by decide +kernel) (br_t rfl ?_)
  refine dt_counts 2 1 1 (by decide +kernel) (by decide +kernel) (by decide +kernel) (br_t (by decide +kernel) ?_)
  refine dt_seek 0 0 0 0 0 (by decide +kernel) (by decide +kernel) (by decide +kernel) (by decide +kernel) (by decide +kernel) (by decide +kernel) (by decide +kernel) (by decide +kernel) (by decide +kernel) (by decide +kernel) (br_t rfl ?_)
  refine dt_rd_fval 0 0 0 0 0 (by decide +kernel) (by decide +kernel) (by decide +kernel) (by decide +kernel) (by decide +kernel) (by decide +kernel) (by decide +kernel) (by decide +kernel) (by decide +kernel) (by decide +kernel) (by decide +kernel) (br_t pk_us ?_)
  refine dt_open 0 m 2 1 1 (by decide +kernel) (by decide +kernel) hm4 (by decide +kernel) (by decide +kernel) (by decide +kernel) pk_us (by decide +kernel) (by decide +kernel) (br_t (by decide +kernel) ?_)
  refine dt_rd_fend 0 2 1 1 (by decide +kernel) (by decide +kernel) (by decide +kernel) (by decide +kernel) (by decide +kernel) (by decide +kernel) (by decide +kernel) (by decide +kernel) (by decide +kernel) (br_t rfl ?_)
  refine dt_counts 3 2 1 (by decide +kernel) (by decide +kernel) (by decide +kernel) (br_t (by decide +kernel) ?_)
  refine dt_cl_file 0 0 0 0 0 0 (by decide +kernel) (by decide +kernel) (by decide +kernel) (by decide +kernel) (by decide +kernel) (by decide +kernel) (by decide +kernel) (by decide +kernel) (by decide +kernel) (by decide +kernel) (by decide +kernel) (br_t rfl ?_)
  refine dt_counts 2 1 1 (by decide +kernel) (by decide +kernel) (by decide +kernel) (br_t (by decide +kernel) ?_)
  refine dt_cl_file 0 2 1 1 0 1 (by decide +kernel) (by decide +kernel) (by decide +kernel) (by decide +kernel) (by decide +kernel) (by decide +kernel) (by decide +kernel) (by decide +kernel) (by decide +kernel) (by decide +kernel) (by decide +kernel) (br_t rfl ?_)
  refine dt_counts 1 1 1 (by decide +kernel) (by decide +kernel) (by decide +kernel) (br_t (by decide +kernel) ?_)
  refine dt_cl_wr 0 1 2 1 0 (by decide +kernel) (by decide +kernel) (by decide +kernel) (by decide +kernel) (by decide +kernel) (by decide +kernel) (by decide +kernel) (by decide +kernel) (by decide +kernel) (by decide +kernel) (br_t rfl ?_)
  refine dt_counts 0 1 0 (by decide +kernel) (by decide +kernel) (by decide +kernel) (br_t (by decide +kernel) ?_)
  exact hP
/-- the law's end, name is none -/
theorem de_450b {post : Int32 → St0 → Prop} {mc ms kc ks : Nat} {x2 x4 : Int32} {s13 s14 s15 : Nat → Int32} (hP : post 1 ()) :
    wL_lawOf_450 post mc ms x2 x4 0 (-1) (-1) kc ks 1 ds_d1 ds_d2 ds_d3 ds_d4 ds_d5 ds_d6 (dt_neg 4) ds_z ds_z ds_z ds_d11 ds_d12 s13 s14 s15 := by
  unfold wL_lawOf_450
  refine br_t rfl (br_t rfl ?_)
  refine dt_counts 1 0 1 (by decide +kernel) (by decide +kernel) (by decide +kernel) (br_t (by decide +kernel) ?_)
  refine dt_cl_wr 0 1 2 1 0 (by decide +kernel) (by decide +kernel) (by decide +kernel) (by decide +kernel) (by decide +kernel) (by decide +kernel) (by decide +kernel) (by decide +kernel) (by decide +kernel) (by decide +kernel) (br_t rfl ?_)
  refine dt_counts 0 0 0 (by decide +kernel) (by decide +kernel) (by decide +kernel) (br_t (by decide +kernel) ?_)
  exact hP
theorem de_430 {post : Int32 → St0 → Prop} {mc ms kc ks : Nat} {x2 : Int32} {s13 s14 s15 : Nat → Int32} (n : Nat) (hn : n < 4) (hP : post 1 ()) :
    wL_lawOf_430 post mc ms x2 (nI n) 1 kc ks 1 ds_d1 ds_d2 ds_d3 ds_d4 ds_d5 ds_d6 (dt_neg 4) ds_z ds_z ds_z ds_d11 ds_d12 s13 s14 s15 := by
  unfold wL_lawOf_430
  refine dt_open 0 n 0 0 0 (by decide +kernel) (by decide +kernel) hn (by decide +kernel) (by decide +kernel) (by decide +kernel) (if_pos hn) (by decide +kernel) (by decide +kernel) (br_f (by decide +kernel) ?_)
  exact de_450 n _ hn rfl hP
theorem de_429 {post : Int32 → St0 → Prop} {mc ms kc ks : Nat} {x2 x4 : Int32} {s13 s14 s15 : Nat → Int32} (hx : x4 < 0 ∨ 3 < x4) (hP : post 1 ()) :
    wL_lawOf_429 post mc ms x2 x4 kc ks 1 ds_d1 ds_d2 ds_d3 ds_d4 ds_d5 ds_d6 (dt_neg 4) ds_z ds_z ds_z ds_d11 ds_d12 s13 s14 s15 := by
  unfold wL_lawOf_429 wL_lawOf_430
  refine dt_open_bad 0 (by decide +kernel) (by decide +kernel) hx (br_t rfl ?_)
  exact de_450b hP
end
section
/-- the second loop, a turn: the read and what is said of it -/
theorem de_288 {post : Int32 → St0 → Prop} {mc ms kc ks : Nat} {J : Int32 → Int32 → (Nat → Int32) → (Nat → Int32) → (Nat → Int32) → (Nat → Int32) → (Nat → Int32) → (Nat → Int32) → (Nat → Int32) → (Nat → Int32) → (Nat → Int32) → (Nat → Int32) → (Nat → Int32) → (Nat → Int32) → (Nat → Int32) → (Nat → Int32) → (Nat → Int32) → Prop}
    {x0 x1 x2 x4 z0 : Int32} {s13 s14 s15 : Nat → Int32} (m i : Nat) (hm : m ≤ 5) (hi : i < 5) (h13 : s13 0 = nI ((1 + min i m) % 6)) (h14 : s14 0 = nI (m - min i m)) (h15 : ∀ j, j < m + 1 → s15 j = ds_p x0 x1 x2 j &&& 255) (hz : z0 = ds_p x0 x1 x2 (1 + i))
    (hJ : ∀ t13 t14 : Nat → Int32, t13 0 = nI ((1 + min (i + 1) m) % 6) → t14 0 = nI (m - min (i + 1) m) → J (nI (i + 1)) 2 ds_a1 ds_c2 ds_c3 ds_a4 ds_a5 ds_a5 (dt_neg 4) ds_z ds_z ds_z ds_a11 ds_a11 t13 t14 s15) :
    wL_lawOf_288 post mc ms J x0 x1 x2 x4 (nI m) (nI i) z0 kc ks 2 ds_a1 ds_c2 ds_c3 ds_a4 ds_a5 ds_a5 (dt_neg 4) ds_z ds_z ds_z ds_a11 ds_a11 s13 s14 s15 := by
  unfold wL_lawOf_288
  by_cases h : m ≤ i
  · have e : min i m = m := by omega
    have e' : min (i + 1) m = m := by omega
    rw [e] at h13 h14
    rw [e'] at hJ
    refine dt_rd_wait 1 0 0 0 (by decide +kernel) (by decide +kernel) (by decide +kernel) (by decide +kernel) (by decide +kernel) (by decide +kernel) (by decide +kernel) (by decide +kernel) (by rw [h14, Nat.sub_self]; rfl) (by decide +kernel) (br_t (nI_le h (by omega)) ?_)
    unfold wL_lawOf_315
    exact br_t rfl (nm_r (nI_1 i) (hJ s13 s14 h13 h14))
  · have e : min i m = i := by omega
    have e' : min (i + 1) m = i + 1 := by omega
    rw [e] at h13 h14
    rw [e'] at hJ
    refine dt_rd_val 1 0 0 0 (1 + i) (m - (i + 1)) (by decide +kernel) (by decide +kernel) (by decide +kernel) (by decide +kernel) (by decide +kernel) (by decide +kernel) (by decide +kernel) (by decide +kernel) (by omega) (by omega) (by rw [h14]; congr 1; omega) (by rw [h13]; congr 1; omega) (br_f (nI_ge (by omega) (by omega)) ?_)
    unfold wL_lawOf_315
    refine br_t ?_ (nm_r (nI_1 i) (hJ _ _ ?_ pk_us))
    · rw [hz, show 6 * 0 + (1 + i) = 1 + i by omega]
      exact h15 (1 + i) (by omega)
    · rw [pk_us]
      congr 1
      by_cases h5 : 1 + i = 5
      · rw [if_pos h5]; omega
      · rw [if_neg h5]; omega
/-- the second loop, and what stands behind it -/
theorem de_272 {post : Int32 → St0 → Prop} {mc ms kc ks : Nat} {x0 x1 x2 x4 : Int32} {s13 s14 s15 : Nat → Int32} (m : Nat) (hm : m ≤ 5) (h13 : s13 0 = nI 1) (h14 : s14 0 = nI m) (h15 : ∀ j, j < m + 1 → s15 j = ds_p x0 x1 x2 j &&& 255) (hP : post 1 ()) :
    ∃ n, wL_lawOf_272 post mc ms x0 x1 x2 x4 (nI m) kc ks n 0 2 ds_a1 ds_c2 ds_c3 ds_a4 ds_a5 ds_a5 (dt_neg 4) ds_z ds_z ds_z ds_a11 ds_a11 s13 s14 s15 :=
  pk_loop (σ := (Nat → Int32) × (Nat → Int32)) (fun n i s => wL_lawOf_272 post mc ms x0 x1 x2 x4 (nI m) kc ks n (nI i) 2 ds_a1 ds_c2 ds_c3 ds_a4 ds_a5 ds_a5 (dt_neg 4) ds_z ds_z ds_z ds_a11 ds_a11 s.1 s.2 s15)
    (fun i s => s.1 0 = nI ((1 + min i m) % 6) ∧ s.2 0 = nI (m - min i m)) 5 0 (s13, s14) (by omega)
    ⟨by dsimp only; rw [h13, Nat.zero_min], by dsimp only; rw [h14, Nat.zero_min]; rfl⟩
    (fun n s hI => by
      obtain ⟨t13, t14⟩ := s
      have h14 : t14 0 = 0 := by
        have h := hI.2
        dsimp only at h
        rw [h, show m - min 5 m = 0 by omega]
        rfl
      refine br_t (nI_le (Nat.le_refl 5) (by decide)) ?_
      refine dt_cl_wr 0 0 1 0 0 (by decide +kernel) (by decide +kernel) (by decide +kernel) (by decide +kernel) (by decide +kernel) (by decide +kernel) (by decide +kernel) (by decide +kernel) (by decide +kernel) (by decide +kernel) (br_t rfl ?_)
      refine dt_rd_end 1 0 0 0 (by decide +kernel) (by decide +kernel) (by decide +kernel) (by decide +kernel) (by decide +kernel) (by decide +kernel) (by decide +kernel) (by decide +kernel) h14 (by decide +kernel) (br_t rfl ?_)
      refine dt_counts 1 0 1 (by decide +kernel) (by decide +kernel) (by decide +kernel) (br_t (by decide +kernel) ?_)
      refine dt_pipe 0 0 1 1 1 2 (by decide +kernel) (by decide +kernel) (by decide +kernel) (by decide +kernel) (by decide +kernel) (by decide +kernel) (by decide +kernel) (by decide +kernel) (by decide +kernel) (by decide +kernel) (by decide +kernel) (br_t (by decide +kernel) ?_)
      refine dt_cl_rd 0 0 1 1 0 (by decide +kernel) (by decide +kernel) (by decide +kernel) (by decide +kernel) (by decide +kernel) (by decide +kernel) (by decide +kernel) (by decide +kernel) (by decide +kernel) (by decide +kernel) (br_t rfl ?_)
      refine dt_wr_brk 0 1 2 1 x0 (by decide +kernel) (by decide +kernel) (by decide +kernel) (by decide +kernel) (by decide +kernel) (by decide +kernel) (by decide +kernel) (by decide +kernel) (by decide +kernel) (br_t rfl ?_)
      refine dt_exit 1 (by decide +kernel) (by decide +kernel) (by decide +kernel) ⟨7, ?_⟩
      refine dt_ex_rd 1 0 0 0 0 (by decide +kernel) (by decide +kernel) (by decide +kernel) (by decide +kernel) (by decide +kernel) (by decide +kernel) (by decide +kernel) (by decide +kernel) (by decide +kernel) ?_
      refine dt_ex_n 1 1 (by decide +kernel) (by decide +kernel) (by decide +kernel) ?_
      refine dt_ex_n 1 2 (by decide +kernel) (by decide +kernel) (by decide +kernel) ?_
      refine dt_ex_n 1 3 (by decide +kernel) (by decide +kernel) (by decide +kernel) ?_
      refine dt_ex_n 1 4 (by decide +kernel) (by decide +kernel) (by decide +kernel) ?_
      refine dt_ex_n 1 5 (by decide +kernel) (by decide +kernel) (by decide +kernel) ?_
      refine dt_ex_e 1 1 (by decide +kernel) (by decide +kernel) (br_t rfl ?_)
      refine dt_counts 1 0 1 (by decide +kernel) (by decide +kernel) (by decide +kernel) (br_t (by decide +kernel) ?_)
      refine br_c (fun h => de_429 (Or.inl h) hP) (fun h => br_c (fun h' => de_429 (Or.inr h') hP) (fun h' => ?_))
      obtain ⟨k, hk, rfl⟩ := nI_of2 (M := 3) (n := 3) (by decide) h (Int32.not_lt.mp h')
      exact de_430 k (by omega) hP)
    (fun n i s hi hI hw => br_f (nI_ge (b := 5) hi (by decide)) (pk_eq i 0
      (fun h => de_288 m i hm hi hI.1 hI.2 h15 (by rw [h]; rfl) (fun t13 t14 e1 e2 => hw (t13, t14) ⟨e1, e2⟩))
      (fun h => de_288 m i hm hi hI.1 hI.2 h15 (by unfold ds_p; rw [if_neg (by omega), if_neg (by omega)]) (fun t13 t14 e1 e2 => hw (t13, t14) ⟨e1, e2⟩))))
/-- between the loops -/
theorem de_232 {post : Int32 → St0 → Prop} {mc ms kc ks : Nat} {x0 x1 x2 x4 : Int32} {s13 s14 s15 : Nat → Int32} (m : Nat) (hm : m ≤ 5) (h13 : s13 0 = nI 1) (h14 : s14 0 = nI m) (h15 : ∀ j, j < m + 1 → s15 j = ds_p x0 x1 x2 j &&& 255) (hP : post 1 ()) :
    wL_lawOf_232 post mc ms x0 x1 x2 x4 (nI (m + 1)) kc ks 2 ds_a1 ds_b2 ds_b3 ds_a4 ds_a5 ds_a5 (dt_neg 4) ds_z ds_z ds_z ds_a11 ds_a11 s13 s14 s15 := by
  unfold wL_lawOf_232
  refine nm_r (nI_pred m) ?_
  refine dt_dup 0 1 1 0 2 (by decide +kernel) (by decide +kernel) (by decide +kernel) (by decide +kernel) (by decide +kernel) (by decide +kernel) (by decide +kernel) (by decide +kernel) (by decide +kernel) (br_t rfl ?_)
  refine dt_cl_keep 0 1 1 1 (by decide +kernel) (by decide +kernel) (by decide +kernel) (by decide +kernel) (by decide +kernel) (by decide +kernel) (by decide +kernel) (br_t rfl ?_)
  refine dt_counts 2 0 1 (by decide +kernel) (by decide +kernel) (by decide +kernel) (br_t (by decide +kernel) ?_)
  exact de_272 m hm h13 h14 h15 hP
/-- the first loop, a turn: the write and what is said of it -/
theorem de_138 {post : Int32 → St0 → Prop} {mc ms kc ks : Nat} {J : Int32 → Int32 → (Nat → Int32) → (Nat → Int32) → (Nat → Int32) → (Nat → Int32) → (Nat → Int32) → (Nat → Int32) → (Nat → Int32) → (Nat → Int32) → (Nat → Int32) → (Nat → Int32) → (Nat → Int32) → (Nat → Int32) → (Nat → Int32) → (Nat → Int32) → (Nat → Int32) → Prop}
    {x0 x1 x2 x4 z0 : Int32} {s14 s15 : Nat → Int32} (f i : Nat) (hf : f ≤ 8) (hi : i < 8) (h14 : s14 0 = nI (min (min i f) 6)) (h15 : ∀ j, j < min (min i f) 6 → s15 j = ds_p x0 x1 x2 j &&& 255) (hz : z0 = ds_p x0 x1 x2 i)
    (hJ : ∀ t14 t15 : Nat → Int32, t14 0 = nI (min (min (i + 1) f) 6) → (∀ j, j < min (min (i + 1) f) 6 → t15 j = ds_p x0 x1 x2 j &&& 255) → J (nI (i + 1)) 2 ds_a1 ds_a2 ds_a3 ds_a4 ds_a5 ds_a5 (dt_neg 4) ds_z ds_z ds_z ds_a11 ds_a11 ds_a13 t14 t15) :
    wL_lawOf_138 post mc ms J x0 x1 x2 x4 (nI f) (nI i) z0 kc ks 2 ds_a1 ds_a2 ds_a3 ds_a4 ds_a5 ds_a5 (dt_neg 4) ds_z ds_z ds_z ds_a11 ds_a11 ds_a13 s14 s15 := by
  unfold wL_lawOf_138
  refine pk_le f i (fun h => ?_) (fun h => ?_)
  · rw [show min (min (i + 1) f) 6 = min (min i f) 6 by omega] at hJ
    exact nm_r (nI_1 i) (hJ s14 s15 h14 h15)
  · by_cases h6 : 6 ≤ i
    · have e : min (min i f) 6 = 6 := by omega
      rw [show min (min (i + 1) f) 6 = 6 by omega] at hJ
      rw [e] at h14 h15
      refine dt_wr_wait 0 1 1 0 z0 (by decide +kernel) (by decide +kernel) (by decide +kernel) (by decide +kernel) (by decide +kernel) (by decide +kernel) (by decide +kernel) (by decide +kernel) (by decide +kernel) h14 (br_t (nI_le (a := 6) h6 (by omega)) ?_)
      unfold wL_lawOf_169
      exact br_t rfl (nm_r (nI_1 i) (hJ s14 s15 h14 h15))
    · have e : min (min i f) 6 = i := by omega
      rw [show min (min (i + 1) f) 6 = i + 1 by omega] at hJ
      rw [e] at h14 h15
      refine dt_wr_ok 0 1 1 0 0 i z0 (by decide +kernel) (by decide +kernel) (by decide +kernel) (by decide +kernel) (by decide +kernel) (by decide +kernel) (by decide +kernel) (by decide +kernel) (by omega) (by decide +kernel) (by decide +kernel) h14 (br_f (nI_ge (b := 6) (by omega) (by decide)) ?_)
      unfold wL_lawOf_169
      refine br_t rfl (nm_r (nI_1 i) (hJ _ _ pk_us (fun j hj => ?_)))
      rw [show 6 * 0 + (0 + i) = i by omega]
      by_cases ej : j = i
      · rw [ej, pk_us, hz]
      · rw [pk_un ej]
        exact h15 j (by omega)
/-- the first loop, and what stands behind it -/
theorem de_111 {post : Int32 → St0 → Prop} {mc ms kc ks : Nat} {x0 x1 x2 x4 : Int32} (f : Nat) (hf0 : 1 ≤ f) (hf : f ≤ 8) (hP : post 1 ()) :
    ∃ n, wL_lawOf_111 post mc ms x0 x1 x2 x4 (nI f) kc ks n 0 2 ds_a1 ds_a2 ds_a3 ds_a4 ds_a5 ds_a5 (dt_neg 4) ds_z ds_z ds_z ds_a11 ds_a11 ds_a13 ds_a13 ds_z :=
  pk_loop (σ := (Nat → Int32) × (Nat → Int32)) (fun n i s => wL_lawOf_111 post mc ms x0 x1 x2 x4 (nI f) kc ks n (nI i) 2 ds_a1 ds_a2 ds_a3 ds_a4 ds_a5 ds_a5 (dt_neg 4) ds_z ds_z ds_z ds_a11 ds_a11 ds_a13 s.1 s.2)
    (fun i s => s.1 0 = nI (min (min i f) 6) ∧ ∀ j, j < min (min i f) 6 → s.2 j = ds_p x0 x1 x2 j &&& 255) 8 0 (ds_a13, ds_z) (by omega)
    ⟨by dsimp only; rw [show min (min 0 f) 6 = 0 by omega]; rfl, fun j hj => absurd hj (by omega)⟩
    (fun n s hI => by
      obtain ⟨s14, s15⟩ := s
      have h14 : s14 0 = nI (min (min 8 f) 6) := hI.1
      have h15 : ∀ j, j < min (min 8 f) 6 → s15 j = ds_p x0 x1 x2 j &&& 255 := hI.2
      obtain ⟨k, hk⟩ : ∃ k, min (min 8 f) 6 = k + 1 := ⟨min (min 8 f) 6 - 1, by omega⟩
      rw [hk] at h14 h15
      refine br_t (nI_le (Nat.le_refl 8) (by decide)) ?_
      refine dt_rd_val 1 0 0 0 0 k (by decide +kernel) (by decide +kernel) (by decide +kernel) (by decide +kernel) (by decide +kernel) (by decide +kernel) (by decide +kernel) (by decide +kernel) (by decide +kernel) (by omega) h14 (by decide +kernel) (br_t (h15 0 (by omega)) ?_)
      refine dt_cl_keep 0 0 0 1 (by decide +kernel) (by decide +kernel) (by decide +kernel) (by decide +kernel) (by decide +kernel) (by decide +kernel) (by decide +kernel) (br_t rfl ?_)
      refine dt_rd_bad 0 0 (by decide +kernel) (by decide +kernel) (by decide +kernel) (by decide +kernel) (br_t rfl ?_)
      refine pk_le 6 f (fun h => ?_) (fun h => ?_)
      · have e : k = 5 := by omega
        subst e
        exact de_232 5 (by omega) pk_us pk_us h15 hP
      · have e : f = k + 1 := by omega
        subst e
        exact de_232 k (by omega) pk_us pk_us h15 hP)
    (fun n i s hi hI hw => br_f (nI_ge (b := 8) hi (by decide)) (pk_eq i 0
      (fun h => de_138 f i hf hi hI.1 hI.2 (by rw [h]; rfl) (fun t14 t15 e1 e2 => hw (t14, t15) ⟨e1, e2⟩))
      (fun h => pk_eq i 1
        (fun h' => de_138 f i hf hi hI.1 hI.2 (by rw [h']; rfl) (fun t14 t15 e1 e2 => hw (t14, t15) ⟨e1, e2⟩))
        (fun h' => de_138 f i hf hi hI.1 hI.2 (by unfold ds_p; rw [if_neg h, if_neg h']) (fun t14 t15 e1 e2 => hw (t14, t15) ⟨e1, e2⟩)))))
end
section
/-- the law of five ints -/
theorem de_law {post : Int32 → St0 → Prop} (x0 x1 x2 x3 x4 : Int32) (hP : post 1 ()) : wpL_lawOf post 346 5520 () x0 x1 x2 x3 x4 := by
  obtain ⟨k, hk, ek⟩ := pk_andE x3 (m := 7) 3 (by decide)
  unfold wpL_lawOf
  refine ⟨by omega, by omega, 15, 648, by omega, by omega, dt_init (by omega) (by omega) ?_⟩
  refine dt_pipe 0 0 1 0 0 1 (by decide +kernel) (by decide +kernel) (by decide +kernel) (by decide +kernel) (by decide +kernel) (by decide +kernel) (by decide +kernel) (by decide +kernel) (by decide +kernel) (by decide +kernel) (by decide +kernel) (br_t (by decide +kernel) ?_)
  refine dt_counts 2 0 1 (by decide +kernel) (by decide +kernel) (by decide +kernel) (br_t (by decide +kernel) ?_)
  refine dt_fork 0 1 2 (by decide +kernel) (by decide +kernel) (by decide +kernel) (by decide +kernel) (by decide +kernel) ⟨7, ?_⟩
  refine dt_fk_o 0 1 0 0 2 (by decide +kernel) (by decide +kernel) (by decide +kernel) (by decide +kernel) (by decide +kernel) (by decide +kernel) ?_
  refine dt_fk_o 0 1 1 1 2 (by decide +kernel) (by decide +kernel) (by decide +kernel) (by decide +kernel) (by decide +kernel) (by decide +kernel) ?_
  refine dt_fk_n 0 1 2 (by decide +kernel) (by decide +kernel) (by decide +kernel) (by decide +kernel) ?_
  refine dt_fk_n 0 1 3 (by decide +kernel) (by decide +kernel) (by decide +kernel) (by decide +kernel) ?_
  refine dt_fk_n 0 1 4 (by decide +kernel) (by decide +kernel) (by decide +kernel) (by decide +kernel) ?_
  refine dt_fk_n 0 1 5 (by decide +kernel) (by decide +kernel) (by decide +kernel) (by decide +kernel) ?_
  refine dt_fk_e (br_t rfl ?_)
  refine dt_counts 2 0 1 (by decide +kernel) (by decide +kernel) (by decide +kernel) (br_t (by decide +kernel) ?_)
  refine dt_cl_keep 1 1 1 1 (by decide +kernel) (by decide +kernel) (by decide +kernel) (by decide +kernel) (by decide +kernel) (by decide +kernel) (by decide +kernel) (br_t rfl ?_)
  refine dt_rd_wait 1 0 0 0 (by decide +kernel) (by decide +kernel) (by decide +kernel) (by decide +kernel) (by decide +kernel) (by decide +kernel) (by decide +kernel) (by decide +kernel) (by decide +kernel) (by decide +kernel) (br_t rfl ?_)
  refine dt_rd_w 0 1 1 (by decide +kernel) (by decide +kernel) (by decide +kernel) (by decide +kernel) (by decide +kernel) (by decide +kernel) (br_t rfl ?_)
  refine dt_wr_r 0 0 0 x0 (by decide +kernel) (by decide +kernel) (by decide +kernel) (by decide +kernel) (by decide +kernel) (by decide +kernel) (br_t rfl ?_)
  refine nm_r (e' := nI (1 + k)) (by rw [ek]; exact nI_add 1 k) ?_
  exact de_111 (1 + k) (by omega) (by omega) hP
/-- a cell of the script -/
theorem de_cell {post : Int32 → Prop} {L : Nat} {xs : Nat → Int32} (k : Nat) (hk : k < 5) (hL : L ≤ 5) (h : ∀ x, post x) : wpL_cellAt post L xs () (nI k) := by
  unfold wpL_cellAt
  exact pk_le L k (fun _ => h _) (fun z => ⟨pk_in k L z, h _⟩)
theorem i_vc (xs : Nat → Int32) (L : Nat) (hL : L ≤ 5) : wpL_law (fun r => r = 1) L xs := by
  unfold wpL_law
  refine de_cell 0 (by omega) hL (fun x0 => ?_)
  refine de_cell 1 (by omega) hL (fun x1 => ?_)
  refine de_cell 2 (by omega) hL (fun x2 => ?_)
  refine de_cell 3 (by omega) hL (fun x3 => ?_)
  refine de_cell 4 (by omega) hL (fun x4 => ?_)
  exact ⟨346, 5520, by omega, by omega, de_law x0 x1 x2 x3 x4 rfl⟩
end
