section
/-- the set of certificates: the first one, or none -/
def nr_cs (g : Bool) : Int32 := match g with | true => 1 | false => 0
/-- the costs: 1 at the cell c if b, else 2^20 everywhere -/
def nr_M (b : Bool) (c : Nat) (a : Nat → Int32) : Prop := ∀ j, j < 108 → a j = if b = true ∧ j = c then 1 else 1048576
/-- the certificate 0, if there is one (g): its cell is c; its path is empty if b -/
def nr_ct (g b : Bool) (k n p c : Nat) (a1 a2 a3 a4 : Nat → Int32) : Prop := (g = false → b = false) ∧ (g = true → k < 6 ∧ n < 3 ∧ p < 6 ∧ c = k * 18 + n * 6 + p ∧ a1 0 = nI k ∧ a2 0 = nI n ∧ a3 0 = nI p ∧ (a4 0 = 0 ↔ b = true))
/-- a principal, a name, a path -/
def nr_pr (N x : Int32) : Prop := ¬ x < 0 ∧ ¬ N ≤ x
def nr_nm (x : Int32) : Prop := ¬ x < 0 ∧ ¬ (3 : Int32) ≤ x
def nr_pa (x : Int32) : Prop := ¬ x < 0 ∧ ¬ (12 : Int32) < x
theorem nr_M_y {c : Nat} {a : Nat → Int32} (h : nr_M true c a) (hc : c < 108) : a c = 1 := by
  rw [h c hc, if_pos ⟨rfl, rfl⟩]
theorem nr_M_n {b : Bool} {c j : Nat} {a : Nat → Int32} (h : nr_M b c a) (hj : j < 108) (hn : ¬ (b = true ∧ j = c)) : a j = 1048576 := by
  rw [h j hj, if_neg hn]
theorem nr_M_0 {c : Nat} {a : Nat → Int32} (h : ∀ j, j < 108 → a j = 1048576) : nr_M false c a := by
  intro j hj
  rw [if_neg (fun z => absurd z.1 (by decide))]
  exact h j hj
theorem nr_bg {g b : Bool} {k n p c : Nat} {a1 a2 a3 a4 : Nat → Int32} (h : nr_ct g b k n p c a1 a2 a3 a4) (hb : b = true) : g = true := by
  cases g with
  | false => rw [h.1 rfl] at hb; exact absurd hb (by decide)
  | true => rfl
theorem nr_bit0 : ∀ i, i < 10 → ((0 : Int32) >>> (nI i &&& 31)) &&& 1 = 0 := by decide
theorem nr_bit1 : ∀ i, i < 10 → i ≠ 0 → ((1 : Int32) >>> (nI i &&& 31)) &&& 1 = 0 := by decide
theorem nr_cell (k n x : Nat) : ((nI k * 18) + (nI n * 6)) + nI x = nI (k * 18 + n * 6 + x) := by
  show ((nI k * nI 18) + (nI n * nI 6)) + nI x = _
  rw [pk_mul, pk_mul, nI_add, nI_add]
theorem nr_prn {N : Nat} {x : Int32} (hN : N ≤ 6) (h : nr_pr (nI N) x) : ∃ j : Nat, j < N ∧ x = nI j := by
  rcases pk_ix x (n := N) (by omega) with z | z | z
  · exact absurd z h.1
  · exact absurd z h.2
  · exact z
theorem nr_nmn {x : Int32} (h : nr_nm x) : ∃ j : Nat, j < 3 ∧ x = nI j := by
  rcases pk_ix x (n := 3) (by decide) with z | z | z
  · exact absurd z h.1
  · exact absurd z h.2
  · exact z
theorem nr_pan {x : Int32} (h : nr_pa x) : ∃ j : Nat, j ≤ 12 ∧ x = nI j := by
  obtain ⟨j, hj, rfl⟩ := nI_of h.1
  refine ⟨j, ?_, rfl⟩
  rcases Nat.lt_or_ge 12 j with z | z
  · exact absurd (nI_lt z hj) h.2
  · exact z
theorem nr_b8 : ∀ i, i < 33 → (nI i).toInt8.toInt32 = nI i := by decide
theorem nr_fill {s f : Nat → Int32} {i : Nat} {v : Int32} (hi : i < 2 ^ 31) (h : ∀ j, j < i → s j = f j) (hv : v = f i) : ∀ j, j < i + 1 → upd s (nI i).toNatClampNeg v j = f j := by
  intro j hj
  rw [nI_clamp hi]
  by_cases e : j = i
  · rw [e, pk_us, hv]
  · rw [pk_un e]
    exact h j (by omega)
theorem nr_z0 : (nI 0).toNatClampNeg = 0 := nI_clamp (by decide)
section
variable {pr cs gs os sv : Int32} {a1 a2 a3 a4 a5 a6 a7 a8 a9 a10 a11 a12 : Nat → Int32}
theorem nr_has {post : Int32 → Prop} {g : Bool} {i : Nat} (hi : i < 10) (H1 : g = true → i = 0 → post 1) (H0 : ¬ (g = true ∧ i = 0) → post 0) : wpX_hasCert post (pr, (nr_cs g), gs, os, sv, a1, a2, a3, a4, a5, a6, a7, a8, a9, a10, a11, a12) (nI i) := by
  refine br_f (nI_pos (by omega)) (br_f (nI_ge (b := 10) hi (by decide)) ?_)
  cases g with
  | false => exact br_t (nr_bit0 i hi) (H0 (fun z => absurd z.1 (by decide)))
  | true =>
    by_cases e : i = 0
    · subst e
      exact br_f (by decide) (H1 rfl rfl)
    · exact br_t (nr_bit1 i hi e) (H0 (fun z => e z.2))
theorem nr_hasX {post : Int32 → Prop} {g : Bool} {x : Int32} (H1 : g = true → x = 0 → post 1) (H0 : ¬ (g = true ∧ x = 0) → post 0) : wpX_hasCert post (pr, (nr_cs g), gs, os, sv, a1, a2, a3, a4, a5, a6, a7, a8, a9, a10, a11, a12) x := by
  rcases pk_ix x (n := 10) (by decide) with h | h | ⟨i, hi, rfl⟩
  · exact br_t h (H0 (fun z => absurd h (by rw [z.2]; decide)))
  · have hn : ¬ (g = true ∧ x = 0) := fun z => absurd h (by rw [z.2]; decide)
    exact br_c (fun _ => H0 hn) (fun _ => br_t h (H0 hn))
  · exact nr_has hi (fun hg e => H1 hg (by rw [e]; rfl)) (fun hn => H0 (fun z => hn ⟨z.1, (nI_eq (a := i) (b := 0) (by omega) (by decide)).mp z.2⟩))
theorem nr_isp {post : Int32 → Prop} {x : Int32} (H1 : nr_pr pr x → post 1) (H0 : ¬ nr_pr pr x → post 0) : wpX_isPrincipal post (pr, cs, gs, os, sv, a1, a2, a3, a4, a5, a6, a7, a8, a9, a10, a11, a12) x :=
  br_c (fun h => H0 (fun z => z.1 h)) (fun h => br_c (fun h2 => H0 (fun z => z.2 h2)) (fun h2 => H1 ⟨h, h2⟩))
theorem nr_isn {post : Int32 → Prop} {x : Int32} (H1 : nr_nm x → post 1) (H0 : ¬ nr_nm x → post 0) : wpX_isName post () x :=
  br_c (fun h => H0 (fun z => z.1 h)) (fun h => br_c (fun h2 => H0 (fun z => z.2 h2)) (fun h2 => H1 ⟨h, h2⟩))
theorem nr_ispa {post : Int32 → Prop} {x : Int32} (H1 : nr_pa x → post 1) (H0 : ¬ nr_pa x → post 0) : wpX_isPath post () x :=
  br_c (fun h => H0 (fun z => z.1 h)) (fun h => br_c (fun h2 => H0 (fun z => z.2 h2)) (fun h2 => H1 ⟨h, h2⟩))
theorem nr_cello {post : Int32 → Prop} {x y z w : Int32} (e : ((x * 18) + (y * 6)) + z = w) (h : post w) : wpX_cellOf post () x y z := by
  unfold wpX_cellOf
  rw [e]
  exact h
theorem nr_fn {post : Int32 → Prop} {t : Nat} (h0 : t ≠ 0) (ht : t ≤ 12) (H : ∀ a, a < 3 → post (nI a)) : wpX_firstName post () (nI t) := by
  refine pk_lt 3 t (fun z => ⟨by decide, ?_⟩) (fun z => ?_)
  · have e : (nI t - 4) / 3 = nI ((t - 4) / 3) := by
      show (nI t - nI 4) / nI 3 = _
      rw [pk_sub (by omega), pk_div (by omega) (by decide) (by decide)]
    rw [e]
    exact H _ (by omega)
  · have e : nI t - 1 = nI (t - 1) := pk_sub (b := 1) (by omega)
    rw [e]
    exact H _ (by omega)
theorem nr_sn {post : Int32 → Prop} {t : Nat} (h0 : 3 < t) (ht : t ≤ 12) (H : ∀ a, a < 3 → post (nI a)) : wpX_secondName post () (nI t) := by
  refine ⟨by decide, ?_⟩
  have e : (nI t - 4) - (nI t - 4) / 3 * 3 = nI ((t - 4) % 3) := by
    show (nI t - nI 4) - (nI t - nI 4) / nI 3 * nI 3 = _
    rw [pk_sub (by omega), pk_rem (by omega) (by decide) (by decide)]
  rw [e]
  exact H _ (by omega)
end
end
section
section
variable {pr cs gs os sv : Int32} {a1 a2 a3 a4 a5 a6 a7 a8 a9 a10 a11 a12 : Nat → Int32}
theorem nr_ch0 {post : Int32 → Prop} (h : ∀ j, j < 108 → a9 j = 0 → a8 j = 1048576) (H : post (-1)) : wpX_cheapest post (pr, cs, gs, os, sv, a1, a2, a3, a4, a5, a6, a7, a8, a9, a10, a11, a12) :=
  pk_loop (σ := Unit) (fun n i _ => wX_cheapest_4 post pr cs gs os sv a1 a2 a3 a4 a5 a6 a7 a8 a9 a10 a11 a12 n (-1) (nI i)) (fun _ _ => True) 108 0 () (by omega) trivial
    (fun n _ _ => pk_le 108 108 (fun _ => H) (fun z => absurd z (by omega)))
    (fun n i _ hi _ hw => pk_le 108 i (fun z => absurd z (by omega)) (fun _ => ⟨pk_in i 108 hi, br_c (fun e => ⟨pk_in i 108 hi, br_t (by rw [nI_clamp (by omega)] at e ⊢; rw [h i hi e]; decide) (nm_r (nI_1 i) (hw () trivial))⟩) (fun _ => nm_r (nI_1 i) (hw () trivial))⟩))
theorem nr_ch1 {post : Int32 → Prop} {c : Nat} (hc : c < 108) (h8 : nr_M true c a8) (h9 : ∀ j, j < 108 → a9 j = 0) (H : post (nI c)) : wpX_cheapest post (pr, cs, gs, os, sv, a1, a2, a3, a4, a5, a6, a7, a8, a9, a10, a11, a12) := by
  refine pk_loop (fun n i s => wX_cheapest_4 post pr cs gs os sv a1 a2 a3 a4 a5 a6 a7 a8 a9 a10 a11 a12 n s (nI i)) (fun i s => s = if c < i then nI c else -1) 108 0 (-1) (by omega) (by rw [if_neg (by omega)]) ?_ ?_
  · intro n s h
    have h' : s = nI c := by rw [h, if_pos hc]
    subst h'
    exact pk_le 108 108 (fun _ => H) (fun z => absurd z (by omega))
  · intro n i s hi h hw
    refine pk_le 108 i (fun z => absurd z (by omega)) (fun _ => ⟨pk_in i 108 hi, br_t (by rw [nI_clamp (by omega)]; exact h9 i hi) ⟨pk_in i 108 hi, ?_⟩⟩)
    by_cases e : i = c
    · have e1 : ¬ (1048576 : Int32) ≤ a8 (nI i).toNatClampNeg := by
        rw [nI_clamp (by omega), e, nr_M_y h8 hc]
        decide
      have e2 : s = -1 := by rw [h, if_neg (by omega)]
      exact br_f e1 (br_t (by rw [e2]; decide) (nm_r (nI_1 i) (hw (nI i) (by rw [if_pos (by omega), e]))))
    · have e1 : (1048576 : Int32) ≤ a8 (nI i).toNatClampNeg := by
        rw [nI_clamp (by omega), nr_M_n h8 hi (fun z => e z.2)]
        decide
      refine br_t e1 (nm_r (nI_1 i) (hw s ?_))
      show s = if c < i + 1 then nI c else -1
      rw [h]
      by_cases q : c < i
      · rw [if_pos q, if_pos (by omega)]
      · rw [if_neg q, if_neg (by omega)]
theorem nr_s30 {post : St2 → Prop} {g : Bool} {x2 x3 x4 x5 : Int32} (h4 : g = true → a4 0 = 0) (H : post (pr, (nr_cs g), gs, os, sv, a1, a2, a3, a4, a5, a6, a7, a8, a9, a10, a11, a12)) : ∃ fu, wX_spread_30 post x2 x3 x4 x5 fu 0 pr (nr_cs g) gs os sv a1 a2 a3 a4 a5 a6 a7 a8 a9 a10 a11 a12 :=
  pk_loop (σ := Unit) (fun n i _ => wX_spread_30 post x2 x3 x4 x5 n (nI i) pr (nr_cs g) gs os sv a1 a2 a3 a4 a5 a6 a7 a8 a9 a10 a11 a12) (fun _ _ => True) 10 0 () (by omega) trivial
    (fun n _ _ => pk_le 10 10 (fun _ => H) (fun z => absurd z (by omega)))
    (fun n i _ hi _ hw => pk_le 10 i (fun z => absurd z (by omega)) (fun _ => ⟨pk_in i 10 hi, nm_e (nr_has hi
      (fun hg e => br_f (by decide) (br_t (by rw [nI_clamp (by omega), e, h4 hg]; decide) (nm_r (nI_1 i) (hw () trivial))))
      (fun _ => br_t rfl (nm_r (nI_1 i) (hw () trivial))))⟩))
theorem nr_spread {post : St2 → Prop} {g : Bool} {c : Nat} (hc : c < 108) (h4 : g = true → a4 0 = 0) (H : post (pr, (nr_cs g), gs, os, sv, a1, a2, a3, a4, a5, a6, a7, a8, a9, a10, a11, a12)) : wpX_spread post (pr, (nr_cs g), gs, os, sv, a1, a2, a3, a4, a5, a6, a7, a8, a9, a10, a11, a12) (nI c) :=
  ⟨by decide, fun _ _ => ⟨by decide, by decide, fun _ _ => ⟨by decide, fun _ _ => ⟨pk_in c 108 hc, fun _ _ => nr_s30 h4 H⟩⟩⟩⟩
theorem nr_offer {post : St2 → Prop} {k n p c : Nat} {x : Int32} (hc : c < 108) (e1 : a1 0 = nI k) (e2 : a2 0 = nI n) (ex : x = nI p) (ec : c = k * 18 + n * 6 + p) (h8 : a8 c = 1048576) (H : post (pr, cs, gs, os, sv, a1, a2, a3, a4, a5, a6, a7, (upd a8 c 1), a9, a10, a11, a12)) : wpX_offer post (pr, cs, gs, os, sv, a1, a2, a3, a4, a5, a6, a7, a8, a9, a10, a11, a12) (nI 0) x 1 := by
  have ez : ((a1 (nI 0).toNatClampNeg * 18) + (a2 (nI 0).toNatClampNeg * 6)) + x = nI c := by
    rw [nr_z0, e1, e2, ex, nr_cell, ec]
  refine ⟨pk_in 0 10 (by omega), pk_in 0 10 (by omega), nr_cello ez ?_⟩
  exact br_f (by decide) ⟨pk_in c 108 hc, br_f (by rw [nI_clamp (by omega), h8]; decide) ⟨pk_in c 108 hc, nm_r (by rw [nI_clamp (by omega)]) H⟩⟩
theorem nr_s87 {post : St2 → Prop} {g b : Bool} {k n p c : Nat} (hc : nr_ct g b k n p c a1 a2 a3 a4) (h8 : nr_M b c a8) (h9 : ∀ j, j < 108 → a9 j = 0) (H : ∀ a9', post (pr, (nr_cs g), gs, os, sv, a1, a2, a3, a4, a5, a6, a7, a8, a9', a10, a11, a12)) : ∃ fu, wX_solve_87 post fu 0 pr (nr_cs g) gs os sv a1 a2 a3 a4 a5 a6 a7 a8 a9 a10 a11 a12 := by
  by_cases hb : b = true
  · obtain ⟨hk, hn, hp, he, e1, e2, e3, e4⟩ := hc.2 (nr_bg hc hb)
    have hc' : c < 108 := by omega
    refine ⟨0 + 1 + 1, ?_⟩
    refine br_f (by decide) (nr_ch1 hc' (hb ▸ h8) h9 ?_)
    refine br_t (nI_pos' (by omega)) ⟨pk_in c 108 hc', nm_e (nr_spread hc' (fun _ => e4.mpr hb) ?_)⟩
    refine nm_r (nI_1 0) ?_
    refine br_f (by decide) (nr_ch0 ?_ ?_)
    · intro j hj h
      by_cases e : j = c
      · rw [nI_clamp (by omega), e, pk_us] at h
        exact absurd h (by decide)
      · exact nr_M_n h8 hj (fun z => e z.2)
    · exact br_f (by decide) (H _)
  · exact ⟨0 + 1, br_f (by decide) (nr_ch0 (fun j hj _ => nr_M_n h8 hj (fun z => hb z.1)) (br_f (by decide) (H a9)))⟩
theorem nr_s44 {post : St2 → Prop} {g b : Bool} {k n p c : Nat} (hc : nr_ct g b k n p c a1 a2 a3 a4) (h8 : ∀ j, j < 108 → a8 j = 1048576) (H : ∀ a8', nr_M b c a8' → ∃ fu, wX_solve_87 post fu 0 pr (nr_cs g) gs os sv a1 a2 a3 a4 a5 a6 a7 a8' a9 a10 a11 a12) : ∃ fu, wX_solve_44 post fu 0 pr (nr_cs g) gs os sv a1 a2 a3 a4 a5 a6 a7 a8 a9 a10 a11 a12 := by
  refine pk_loop (fun m i s => wX_solve_44 post m (nI i) pr (nr_cs g) gs os sv a1 a2 a3 a4 a5 a6 a7 s a9 a10 a11 a12) (fun i s => (i = 0 → ∀ j, j < 108 → s j = 1048576) ∧ (0 < i → nr_M b c s)) 10 0 a8 (by omega) ⟨fun _ => h8, fun z => absurd z (by omega)⟩ ?_ ?_
  · intro m s h
    exact pk_le 10 10 (fun _ => H s (h.2 (by omega))) (fun z => absurd z (by omega))
  · intro m i s hi h hw
    refine pk_le 10 i (fun z => absurd z (by omega)) (fun _ => nr_has hi (fun hg e => ?_) (fun hn => br_t rfl (nm_r (nI_1 i) (hw s ⟨fun z => absurd z (by omega), fun _ => ?_⟩))))
    · subst e
      obtain ⟨hk, hn, hp, he, e1, e2, e3, e4⟩ := hc.2 hg
      have hc' : c < 108 := by omega
      have hs := h.1 rfl
      refine br_f (by decide) ⟨pk_in 0 10 (by omega), br_c (fun z4 => ?_) (fun z4 => ?_)⟩
      · rw [nr_z0] at z4
        have hb := e4.mp z4
        refine ⟨pk_in 0 10 (by omega), nr_offer hc' e1 e2 (by rw [nr_z0, e3]) he (hs c hc') ?_⟩
        refine nm_r (nI_1 0) (hw _ ⟨fun z => absurd z (by omega), fun _ => ?_⟩)
        intro j hj
        by_cases e : j = c
        · rw [e, pk_us, if_pos ⟨hb, rfl⟩]
        · rw [pk_un e, if_neg (fun z => e z.2)]
          exact hs j hj
      · rw [nr_z0] at z4
        refine nm_r (nI_1 0) (hw s ⟨fun z => absurd z (by omega), fun _ => ?_⟩)
        intro j hj
        rw [if_neg (fun z => z4 (e4.mpr z.1))]
        exact hs j hj
    · by_cases e : i = 0
      · have hb : b = false := by
          cases g with
          | false => exact hc.1 rfl
          | true => exact absurd ⟨rfl, e⟩ hn
        rw [hb]
        exact nr_M_0 (h.1 e)
      · exact h.2 (by omega)
theorem nr_s15 {post : St2 → Prop} (H : ∀ a8' a9', (∀ j, j < 108 → a8' j = 1048576) → (∀ j, j < 108 → a9' j = 0) → ∃ fu, wX_solve_44 post fu 0 pr cs gs os sv a1 a2 a3 a4 a5 a6 a7 a8' a9' a10 a11 a12) : ∃ fu, wX_solve_15 post pr cs gs os sv fu 0 a1 a2 a3 a4 a5 a6 a7 a8 a9 a10 a11 a12 :=
  pk_loop (fun m i (s : (Nat → Int32) × (Nat → Int32)) => wX_solve_15 post pr cs gs os sv m (nI i) a1 a2 a3 a4 a5 a6 a7 s.1 s.2 a10 a11 a12) (fun i s => (∀ j, j < i → s.1 j = (fun _ => 1048576) j) ∧ ∀ j, j < i → s.2 j = (fun _ => 0) j) 108 0 (a8, a9) (by omega) ⟨fun j hj => absurd hj (by omega), fun j hj => absurd hj (by omega)⟩
    (fun m s h => pk_le 108 108 (fun _ => H s.1 s.2 h.1 h.2) (fun z => absurd z (by omega)))
    (fun m i s hi h hw => pk_le 108 i (fun z => absurd z (by omega)) (fun _ => ⟨pk_in i 108 hi, nm_e ⟨pk_in i 108 hi, nm_e (nm_r (nI_1 i) (hw (_, _) ⟨nr_fill (by omega) h.1 rfl, nr_fill (by omega) h.2 rfl⟩))⟩⟩))
theorem nr_solve {post : St2 → Prop} {g b : Bool} {k n p c : Nat} (hc : nr_ct g b k n p c a1 a2 a3 a4) (h : sv = 0 ∨ nr_M b c a8) (H : ∀ sv' a8' a9', nr_M b c a8' → post (pr, (nr_cs g), gs, os, sv', a1, a2, a3, a4, a5, a6, a7, a8', a9', a10, a11, a12)) : wpX_solve post (pr, (nr_cs g), gs, os, sv, a1, a2, a3, a4, a5, a6, a7, a8, a9, a10, a11, a12) :=
  br_c (fun _ => nr_s15 (fun a8' a9' h8 h9 => nr_s44 hc h8 (fun a8'' hm => nr_s87 hc hm h9 (fun a9'' => H 1 a8'' a9'' hm))))
    (fun hs => H sv a8 a9 (h.resolve_left hs))
end
end
section
section
variable {pr cs gs os sv : Int32} {a1 a2 a3 a4 a5 a6 a7 a8 a9 a10 a11 a12 : Nat → Int32}
theorem nr_dc58 {post : Int32 → Prop} {p a b x : Nat} (hp : p < 6) (ha : a < 3) (hb : b < 3) (hx : x < 6) (h8 : ∀ j, j < 108 → a8 j = 1048576) (H : post 1048576) : ∃ fu, wX_denoteCost_58 post (nI p) (nI x) (nI a) (nI b) pr cs gs os sv a1 a2 a3 a4 a5 a6 a7 a8 a9 a10 a11 a12 fu 1048576 0 :=
  pk_loop (σ := Unit) (fun m i _ => wX_denoteCost_58 post (nI p) (nI x) (nI a) (nI b) pr cs gs os sv a1 a2 a3 a4 a5 a6 a7 a8 a9 a10 a11 a12 m 1048576 (nI i)) (fun _ _ => True) 6 0 () (by omega) trivial
    (fun m _ _ => pk_le 6 6 (fun _ => H) (fun z => absurd z (by omega)))
    (fun m i _ hi _ hw => pk_le 6 i (fun z => absurd z (by omega)) (fun _ => ⟨pk_in (p * 18 + a * 6 + i) 108 (by omega) (nr_cell p a i), pk_in (i * 18 + b * 6 + x) 108 (by omega) (nr_cell i b x),
      nm_r (e' := 1048576 + 1048576) (by rw [nr_cell, nr_cell, nI_clamp (by omega), nI_clamp (by omega), h8 _ (by omega), h8 _ (by omega)]) (br_t (by decide) (nm_r (nI_1 i) (hw () trivial)))⟩))
theorem nr_dc {post : Int32 → Prop} {p t x : Nat} (hp : p < 6) (ht : t ≤ 12) (hx : x < 6) (h8 : ∀ j, j < 108 → a8 j = 1048576) (H0 : t = 0 → p = x → post 0) (H1 : ¬ (t = 0 ∧ p = x) → post 1048576) : wpX_denoteCost post (pr, cs, gs, os, sv, a1, a2, a3, a4, a5, a6, a7, a8, a9, a10, a11, a12) (nI p) (nI t) (nI x) := by
  refine pk_eq t 0 (fun e => pk_eq p x (fun e2 => H0 e e2) (fun e2 => H1 (fun z => e2 z.2))) (fun e => ?_)
  have H := H1 (fun z => e z.1)
  refine nr_fn e ht (fun a ha => pk_lt 3 t (fun z => nr_sn z ht (fun b hb => nr_dc58 hp ha hb hx h8 H)) (fun z => ⟨pk_in (p * 18 + a * 6 + x) 108 (by omega) (nr_cell p a x), ?_⟩))
  rw [nr_cell, nI_clamp (by omega), h8 _ (by omega)]
  exact H
theorem nr_denotes {post : Int32 → St2 → Prop} {N : Nat} {p t x : Int32} (hN : N ≤ 6)
    (hs : sv = 0)
    (H : ∀ r sv' a8' a9', (sv' = 0 ∨ nr_M false 0 a8') → ((nr_pr (nI N) p ∧ nr_pr (nI N) x ∧ t = 0 ∧ p = x) ∧ r = 0 ∨ ¬ (nr_pr (nI N) p ∧ nr_pr (nI N) x ∧ t = 0 ∧ p = x) ∧ r = -1) → post r ((nI N), (nr_cs false), gs, os, sv', a1, a2, a3, a4, a5, a6, a7, a8', a9', a10, a11, a12)) :
    wpX_denotes post ((nI N), (nr_cs false), gs, os, sv, a1, a2, a3, a4, a5, a6, a7, a8, a9, a10, a11, a12) p t x := by
  unfold wpX_denotes
  refine nr_isp (fun hp => br_f (by decide) ?_) (fun hp => br_t rfl (H _ _ _ _ (Or.inl hs) (Or.inr ⟨fun z => hp z.1, rfl⟩)))
  refine nr_ispa (fun ht => br_f (by decide) ?_) (fun ht => br_t rfl (H _ _ _ _ (Or.inl hs) (Or.inr ⟨fun z => ht (by rw [z.2.2.1]; exact ⟨by decide, by decide⟩), rfl⟩)))
  refine nr_isp (fun hx => br_f (by decide) ?_) (fun hx => br_t rfl (H _ _ _ _ (Or.inl hs) (Or.inr ⟨fun z => hx z.2.1, rfl⟩)))
  have hc : nr_ct false false 0 0 0 0 a1 a2 a3 a4 := ⟨fun _ => rfl, fun z => absurd z (by decide)⟩
  refine nr_solve hc (Or.inl hs) (fun sv' a8' a9' hm => ?_)
  obtain ⟨p', hp', rfl⟩ := nr_prn hN hp
  obtain ⟨x', hx', rfl⟩ := nr_prn hN hx
  obtain ⟨t', ht', rfl⟩ := nr_pan ht
  refine nr_dc (by omega) ht' (by omega) (fun j hj => nr_M_n hm hj (fun z => absurd z.1 (by decide))) (fun e1 e2 => br_f (by decide) (H _ _ _ _ (Or.inr hm) (Or.inl ⟨⟨hp, hx, by rw [e1]; rfl, by rw [e2]⟩, rfl⟩))) (fun hn => br_t (by decide) (H _ _ _ _ (Or.inr hm) (Or.inr ⟨fun z => hn ⟨?_, ?_⟩, rfl⟩)))
  · exact (nI_eq (a := t') (b := 0) (by omega) (by decide)).mp z.2.2.1
  · exact (nI_eq (by omega) (by omega)).mp z.2.2.2
theorem nr_certify {post : Int32 → St2 → Prop} {k n p t : Int32}
    (H1 : nr_pr pr k ∧ nr_pr pr p ∧ nr_nm n ∧ nr_pa t → post 0 (pr, (nr_cs true), gs, os, 0, (upd a1 0 k.toInt8.toInt32), (upd a2 0 n.toInt8.toInt32), (upd a3 0 p.toInt8.toInt32), (upd a4 0 t.toInt8.toInt32), a5, a6, a7, a8, a9, a10, a11, a12))
    (H0 : ¬ (nr_pr pr k ∧ nr_pr pr p ∧ nr_nm n ∧ nr_pa t) → post (-1) (pr, (nr_cs false), gs, os, sv, a1, a2, a3, a4, a5, a6, a7, a8, a9, a10, a11, a12)) :
    wpX_certify post (pr, (nr_cs false), gs, os, sv, a1, a2, a3, a4, a5, a6, a7, a8, a9, a10, a11, a12) k n p t := by
  unfold wpX_certify
  refine nr_isp (fun hk => br_f (by decide) ?_) (fun hk => br_t rfl (H0 (fun z => hk z.1)))
  refine nr_isp (fun hp => br_f (by decide) ?_) (fun hp => br_t rfl (H0 (fun z => hp z.2.1)))
  refine nr_isn (fun hn => br_f (by decide) ?_) (fun hn => br_t rfl (H0 (fun z => hn z.2.2.1)))
  refine nr_ispa (fun ht => br_f (by decide) ?_) (fun ht => br_t rfl (H0 (fun z => ht z.2.2.2)))
  have i0 : vp_in 0 10 := pk_in 0 10 (by omega)
  exact ⟨0 + 1, br_f (by decide) (br_t (by decide) ⟨i0, nm_r (by rw [sb_cl0]) ⟨i0, nm_r (by rw [sb_cl0]) ⟨i0, nm_r (by rw [sb_cl0]) ⟨i0, nm_r (by rw [sb_cl0]) (nm_r (e' := nr_cs true) (by decide) (H1 ⟨hk, hp, hn, ht⟩))⟩⟩⟩⟩)⟩
/-- what a question about a membership (x, y, z) finds -/
def nr_Q (N : Int32) (b : Bool) (k n p : Nat) (x y z : Int32) : Prop := b = true ∧ nr_pr N x ∧ nr_nm y ∧ nr_pr N z ∧ x = nI k ∧ y = nI n ∧ z = nI p
theorem nr_cost {post : Int32 → St2 → Prop} {g b : Bool} {k n p c N : Nat} {x y z : Int32} (hN : N ≤ 6) (hc : nr_ct g b k n p c a1 a2 a3 a4) (h : sv = 0 ∨ nr_M b c a8)
    (H : ∀ r sv' a8' a9', (sv' = 0 ∨ nr_M b c a8') → (nr_Q (nI N) b k n p x y z ∧ r = 1 ∨ ¬ nr_Q (nI N) b k n p x y z ∧ r = -1) → post r ((nI N), (nr_cs g), gs, os, sv', a1, a2, a3, a4, a5, a6, a7, a8', a9', a10, a11, a12)) :
    wpX_cost post ((nI N), (nr_cs g), gs, os, sv, a1, a2, a3, a4, a5, a6, a7, a8, a9, a10, a11, a12) x y z := by
  unfold wpX_cost
  refine nr_isp (fun hx => br_f (by decide) ?_) (fun hx => br_t rfl (H _ _ _ _ h (Or.inr ⟨fun q => hx q.2.1, rfl⟩)))
  refine nr_isn (fun hy => br_f (by decide) ?_) (fun hy => br_t rfl (H _ _ _ _ h (Or.inr ⟨fun q => hy q.2.2.1, rfl⟩)))
  refine nr_isp (fun hz => br_f (by decide) ?_) (fun hz => br_t rfl (H _ _ _ _ h (Or.inr ⟨fun q => hz q.2.2.2.1, rfl⟩)))
  refine nr_solve hc h (fun sv' a8' a9' hm => ?_)
  obtain ⟨x', hx', rfl⟩ := nr_prn hN hx
  obtain ⟨y', hy', rfl⟩ := nr_nmn hy
  obtain ⟨z', hz', rfl⟩ := nr_prn hN hz
  refine ⟨pk_in (x' * 18 + y' * 6 + z') 108 (by omega) (nr_cell x' y' z'), fun v hv => ?_⟩
  rw [nr_cell, nI_clamp (by omega)] at hv
  by_cases q : b = true ∧ x' * 18 + y' * 6 + z' = c
  · obtain ⟨hk, hn, hp, he, e1, e2, e3, e4⟩ := hc.2 (nr_bg hc q.1)
    have hv' : v = 1 := by rw [hv, hm _ (by omega), if_pos q]
    have q2 := q.2
    have w1 : x' = k := by omega
    have w2 : y' = n := by omega
    have w3 : z' = p := by omega
    exact br_f (by rw [hv']; decide) (H _ _ _ _ (Or.inr hm) (Or.inl ⟨⟨q.1, hx, hy, hz, by rw [w1], by rw [w2], by rw [w3]⟩, hv'⟩))
  · have hv' : v = 1048576 := by rw [hv, hm _ (by omega), if_neg q]
    refine br_t (by rw [hv']; decide) (H _ _ _ _ (Or.inr hm) (Or.inr ⟨fun w => q ⟨w.1, ?_⟩, rfl⟩))
    obtain ⟨hk, hn, hp, he, e1, e2, e3, e4⟩ := hc.2 (nr_bg hc w.1)
    have w1 := (nI_eq (by omega) (by omega)).mp w.2.2.2.2.1
    have w2 := (nI_eq (by omega) (by omega)).mp w.2.2.2.2.2.1
    have w3 := (nI_eq (by omega) (by omega)).mp w.2.2.2.2.2.2
    rw [w1, w2, w3, he]
theorem nr_witness {post : Int32 → St2 → Prop} {g b : Bool} {k n p c N : Nat} {x y z : Int32} (hN : N ≤ 6) (hc : nr_ct g b k n p c a1 a2 a3 a4) (h : sv = 0 ∨ nr_M b c a8)
    (H : ∀ r sv' a8' a9', (sv' = 0 ∨ nr_M b c a8') → (nr_Q (nI N) b k n p x y z ∧ r = 0 ∨ ¬ nr_Q (nI N) b k n p x y z ∧ r = -1) → post r ((nI N), (nr_cs g), gs, os, sv', a1, a2, a3, a4, a5, a6, a7, a8', a9', a10, a11, a12)) :
    wpX_witness post ((nI N), (nr_cs g), gs, os, sv, a1, a2, a3, a4, a5, a6, a7, a8, a9, a10, a11, a12) x y z := by
  unfold wpX_witness
  refine nr_cost hN hc h (fun r sv' a8' a9' h' hr => ?_)
  rcases hr with ⟨hq, rfl⟩ | ⟨hq, rfl⟩
  · have hg := nr_bg hc hq.1
    obtain ⟨hk, hn, hp, he, e1, e2, e3, e4⟩ := hc.2 hg
    obtain ⟨qb, _, _, _, qx, qy, qz⟩ := id hq
    have i0 : vp_in 0 10 := pk_in 0 10 (by omega)
    refine br_t (by decide) ⟨0 + 1, br_f (by decide) (nr_has (i := 0) (by decide) (fun _ _ => ?_) (fun hn => absurd ⟨hg, rfl⟩ hn))⟩
    refine br_f (by decide) ⟨i0, br_t (by rw [sb_cl0, e1, qx]) ⟨i0, br_t (by rw [sb_cl0, e2, qy]) ⟨i0, i0, ?_⟩⟩⟩
    exact br_t (by rw [sb_cl0]; exact e4.mpr qb) (br_t (by rw [sb_cl0, e3, qz]) (br_t (by decide) (H _ _ _ _ h' (Or.inl ⟨hq, rfl⟩))))
  · exact br_f (by decide) (H _ _ _ _ h' (Or.inr ⟨hq, rfl⟩))
/-- the set of the members of the row i -/
def nr_row (b : Bool) (c i : Nat) : Int32 := if b = true ∧ c / 6 = i then nI (2 ^ (c % 6)) else 0
theorem nr_or : ∀ i, i < 6 → (0 : Int32) ||| ((1 : Int32) <<< (nI i &&& 31)) = nI (2 ^ i) := by decide
theorem nr_row8 (b : Bool) (c i : Nat) : (nr_row b c i).toInt8.toInt32 = nr_row b c i := by
  unfold nr_row
  by_cases h : b = true ∧ c / 6 = i
  · rw [if_pos h]
    have : ∀ e, e < 6 → (nI (2 ^ e)).toInt8.toInt32 = nI (2 ^ e) := by decide
    exact this (c % 6) (by omega)
  · rw [if_neg h]
    decide
theorem nr_rown {b : Bool} {c i : Nat} (h : b = true ∧ c / 6 = i) : ¬ (0 : Int32) = nr_row b c i := by
  unfold nr_row
  rw [if_pos h]
  have : ∀ e, e < 6 → ¬ (0 : Int32) = nI (2 ^ e) := by decide
  exact this (c % 6) (by omega)
theorem nr_ms {post : Int32 → Prop} {b : Bool} {c k n : Nat} {x y : Int32} (hk : k < 6) (hn : n < 3) (ex : x = nI k) (ey : y = nI n) (hm : nr_M b c a8) (H : post (nr_row b c (k * 3 + n))) : wpX_memberSet post (pr, cs, gs, os, sv, a1, a2, a3, a4, a5, a6, a7, a8, a9, a10, a11, a12) x y := by
  subst ex ey
  refine pk_loop (fun m i s => wX_memberSet_5 post (nI k) (nI n) pr cs gs os sv a1 a2 a3 a4 a5 a6 a7 a8 a9 a10 a11 a12 m s (nI i)) (fun i s => s = if b = true ∧ c / 6 = k * 3 + n ∧ c % 6 < i then nI (2 ^ (c % 6)) else 0) 6 0 0 (by omega) (by rw [if_neg (by omega)]) ?_ ?_
  · intro m s h
    refine pk_le 6 6 (fun _ => ?_) (fun z => absurd z (by omega))
    have e : s = nr_row b c (k * 3 + n) := by
      rw [h]
      unfold nr_row
      by_cases q : b = true ∧ c / 6 = k * 3 + n
      · rw [if_pos q, if_pos ⟨q.1, q.2, by omega⟩]
      · rw [if_neg q, if_neg (fun z => q ⟨z.1, z.2.1⟩)]
    rw [e]
    exact H
  · intro m i s hi h hw
    refine pk_le 6 i (fun z => absurd z (by omega)) (fun _ => ⟨pk_in (k * 18 + n * 6 + i) 108 (by omega) (nr_cell k n i), ?_⟩)
    rw [nr_cell, nI_clamp (by omega)]
    by_cases q : b = true ∧ k * 18 + n * 6 + i = c
    · have q2 := q.2
      have ei : c % 6 = i := by omega
      have es : s = 0 := by rw [h, if_neg (by omega)]
      refine br_f (by rw [hm _ (by omega), if_pos q]; decide) (nm_r (e' := nI (2 ^ i)) (by rw [es]; exact nr_or i hi) (nm_r (nI_1 i) (hw _ ?_)))
      show nI (2 ^ i) = if b = true ∧ c / 6 = k * 3 + n ∧ c % 6 < i + 1 then nI (2 ^ (c % 6)) else 0
      rw [if_pos ⟨q.1, by omega, by omega⟩, ei]
    · refine br_t (by rw [hm _ (by omega), if_neg q]; decide) (nm_r (nI_1 i) (hw _ ?_))
      show s = if b = true ∧ c / 6 = k * 3 + n ∧ c % 6 < i + 1 then nI (2 ^ (c % 6)) else 0
      rw [h]
      by_cases w : b = true ∧ c / 6 = k * 3 + n ∧ c % 6 < i
      · rw [if_pos w, if_pos ⟨w.1, w.2.1, by omega⟩]
      · rw [if_neg w, if_neg]
        intro z
        by_cases e : c % 6 < i
        · exact w ⟨z.1, z.2.1, e⟩
        · exact q ⟨z.1, by omega⟩
theorem nr_m72 {post : Int32 → St2 → Prop} {b : Bool} {c : Nat} (hc : c < 108) (hm : nr_M false 0 a8) (h12 : ∀ j, j < 18 → a12 j = nr_row b c j) (H : ∀ r, (b = true ∧ r = 1 ∨ ¬ b = true ∧ r = 0) → post r (pr, (nr_cs true), gs, os, 0, a1, a2, a3, a4, a5, a6, a7, a8, a9, a10, a11, a12)) : ∃ fu, wX_matters_72 post 0 pr (nr_cs false) gs os sv a1 a2 a3 a4 a5 a6 a7 a8 a9 a10 a11 a12 fu 0 0 := by
  refine pk_loop (fun m i s => wX_matters_72 post 0 pr (nr_cs false) gs os sv a1 a2 a3 a4 a5 a6 a7 a8 a9 a10 a11 a12 m s (nI i)) (fun i s => s = if b = true ∧ c / 6 < i then 1 else 0) 18 0 0 (by omega) (by rw [if_neg (by omega)]) ?_ ?_
  · intro m s h
    refine pk_le 18 18 (fun _ => nm_r (e' := nr_cs true) (by decide) ?_) (fun z => absurd z (by omega))
    by_cases q : b = true
    · have e : s = 1 := by rw [h, if_pos ⟨q, by omega⟩]
      subst e
      exact ⟨by rfl, H 1 (Or.inl ⟨q, rfl⟩)⟩
    · have e : s = 0 := by rw [h, if_neg (fun z => q z.1)]
      subst e
      exact ⟨by rfl, H 0 (Or.inr ⟨q, rfl⟩)⟩
  · intro m i s hi h hw
    have e1 : nI i / 3 = nI (i / 3) := pk_div (d := 3) (by omega) (by decide) (by decide)
    have e2 : nI i - nI i / 3 * 3 = nI (i % 3) := pk_rem (d := 3) (by omega) (by decide) (by decide)
    refine pk_le 18 i (fun z => absurd z (by omega)) (fun _ => ⟨by decide, by decide, nr_ms (k := i / 3) (n := i % 3) (by omega) (by omega) e1 e2 hm ⟨pk_in i 18 hi, ?_⟩⟩)
    rw [nI_clamp (by omega), h12 i hi, show nr_row false 0 (i / 3 * 3 + i % 3) = 0 from if_neg (fun z => absurd z.1 (by decide))]
    by_cases q : b = true ∧ c / 6 = i
    · exact br_f (nr_rown q) (nm_r (nI_1 i) (hw 1 (by rw [if_pos ⟨q.1, by omega⟩])))
    · refine br_t (if_neg q).symm (nm_r (nI_1 i) (hw s ?_))
      show s = if b = true ∧ c / 6 < i + 1 then 1 else 0
      rw [h]
      by_cases w : b = true ∧ c / 6 < i
      · rw [if_pos w, if_pos ⟨w.1, by omega⟩]
      · rw [if_neg w, if_neg]
        intro z
        by_cases e : c / 6 < i
        · exact w ⟨z.1, e⟩
        · exact q ⟨z.1, by omega⟩
theorem nr_matters {post : Int32 → St2 → Prop} {g b : Bool} {k n p c : Nat} {x : Int32} (hc : nr_ct g b k n p c a1 a2 a3 a4) (h : sv = 0 ∨ nr_M b c a8)
    (H : ∀ r sv' a8' a9' a12', ((g = true ∧ x = 0 ∧ b = true) ∧ r = 1 ∨ ¬ (g = true ∧ x = 0 ∧ b = true) ∧ r = 0) → post r (pr, (nr_cs g), gs, os, sv', a1, a2, a3, a4, a5, a6, a7, a8', a9', a10, a11, a12')) :
    wpX_matters post (pr, (nr_cs g), gs, os, sv, a1, a2, a3, a4, a5, a6, a7, a8, a9, a10, a11, a12) x := by
  unfold wpX_matters
  refine nr_hasX (fun hg hx => br_f (by decide) ?_) (fun hn => br_t rfl (H _ _ _ _ _ (Or.inr ⟨fun z => hn ⟨z.1, z.2.1⟩, rfl⟩)))
  subst hg hx
  obtain ⟨hk, hn, hp, he, e1, e2, e3, e4⟩ := hc.2 rfl
  have hc' : c < 108 := by omega
  refine nr_solve hc h (fun sv' a8' a9' hm => ?_)
  refine pk_loop (fun m i s => wX_matters_16 post 0 pr (nr_cs true) gs os sv' m (nI i) a1 a2 a3 a4 a5 a6 a7 a8' a9' a10 a11 s) (fun i s => ∀ j, j < i → s j = nr_row b c j) 18 0 a12 (by omega) (fun j hj => absurd hj (by omega)) ?_ ?_
  · intro m s hs
    refine pk_le 18 18 (fun _ => nm_r (e' := nr_cs false) (by decide) ?_) (fun z => absurd z (by omega))
    have hc0 : nr_ct false false 0 0 0 0 a1 a2 a3 a4 := ⟨fun _ => rfl, fun z => absurd z (by decide)⟩
    refine nr_solve hc0 (Or.inl rfl) (fun sv'' a8'' a9'' hm'' => nr_m72 hc' hm'' hs (fun r hr => H _ _ _ _ _ ?_))
    rcases hr with ⟨hb, hr⟩ | ⟨hb, hr⟩
    · exact Or.inl ⟨⟨rfl, rfl, hb⟩, hr⟩
    · exact Or.inr ⟨fun z => hb z.2.2, hr⟩
  · intro m i s hi hs hw
    have e1 : nI i / 3 = nI (i / 3) := pk_div (d := 3) (by omega) (by decide) (by decide)
    have e2 : nI i - nI i / 3 * 3 = nI (i % 3) := pk_rem (d := 3) (by omega) (by decide) (by decide)
    refine pk_le 18 i (fun z => absurd z (by omega)) (fun _ => ⟨by decide, by decide, nr_ms (k := i / 3) (n := i % 3) (by omega) (by omega) e1 e2 hm ⟨pk_in i 18 hi, nm_e (nm_r (nI_1 i) (hw _ (nr_fill (by omega) hs ?_)))⟩⟩)
    rw [nr_row8, show i / 3 * 3 + i % 3 = i by omega]
theorem nr_revoke {post : Int32 → St2 → Prop} {g : Bool} {x : Int32} (H : ∀ r cs' sv', ((g = true ∧ x = 0) ∧ r = 1 ∨ ¬ (g = true ∧ x = 0) ∧ r = 0) → post r (pr, cs', gs, os, sv', a1, a2, a3, a4, a5, a6, a7, a8, a9, a10, a11, a12)) : wpX_revoke post (pr, (nr_cs g), gs, os, sv, a1, a2, a3, a4, a5, a6, a7, a8, a9, a10, a11, a12) x := by
  unfold wpX_revoke
  exact nr_hasX (fun hg hx => br_f (by decide) (nm_e (H _ _ _ (Or.inl ⟨⟨hg, hx⟩, rfl⟩)))) (fun hn => br_t rfl (H _ _ _ (Or.inr ⟨hn, rfl⟩)))
end
end
section
/-- r is u if P, else v -/
def nr_v (P : Prop) (u v r : Int32) : Prop := P ∧ r = u ∨ ¬ P ∧ r = v
theorem nr_vt {P : Prop} {u v r : Int32} (h : nr_v P u v r) (p : P) : r = u := h.elim (fun z => z.2) (fun z => absurd p z.1)
theorem nr_vf {P : Prop} {u v r : Int32} (h : nr_v P u v r) (p : ¬ P) : r = v := h.elim (fun z => absurd z.1 p) (fun z => z.2)
theorem nr_v0 {P : Prop} {r : Int32} (h : nr_v P 1 0 r) (e : r = 0) : ¬ P := h.elim (fun z => absurd (z.2.symm.trans e) (by decide)) (fun z => z.1)
theorem nr_v1 {P : Prop} {r : Int32} (h : nr_v P 1 0 r) (e : ¬ r = 0) : P := h.elim (fun z => z.1) (fun z => absurd z.2 e)
theorem nr_vI {P Q : Prop} {u v r : Int32} (h : nr_v P u v r) (e : P ↔ Q) : nr_v Q u v r := h.elim (fun z => Or.inl ⟨e.mp z.1, z.2⟩) (fun z => Or.inr ⟨fun q => z.1 (e.mpr q), z.2⟩)
section
variable {post : Int32 → St0 → Prop} {mc ms kc ks : Nat} {G X P S : Prop} {x1 x2 x3 x4 x5 x7 x8 x9 x10 x11 x12 x13 x14 x15 x16 x17 z0 z1 : Int32}
theorem nr_317 (hz : z1 = z0) (hp : post 1 ()) : wL_lawOf_317 post mc ms z0 z1 kc ks := br_t hz hp
theorem nr_297 (hz : z1 = z0) (h16 : nr_v G 1 0 x16) (h12 : nr_v (G ∧ x5 = 0) 1 0 x12) (hp : post 1 ()) : wL_lawOf_297 post mc ms x5 x12 x16 z0 z1 kc ks :=
  br_t hz (br_c (fun e => nr_317 (nr_vf h12 (fun z => nr_v0 h16 e z.1)) hp) (fun e => br_c (fun e5 => nr_317 (nr_vt h12 ⟨nr_v1 h16 e, e5⟩) hp) (fun e5 => nr_317 (nr_vf h12 (fun z => e5 z.2)) hp)))
theorem nr_272 (hz : z1 = z0) (h16 : nr_v G 1 0 x16) (h12 : nr_v (G ∧ x5 = 0) 1 0 x12) (h11 : nr_v (G ∧ x5 = 0 ∧ x4 = 0) 1 0 x11) (hp : post 1 ()) : wL_lawOf_272 post mc ms x4 x5 x11 x12 x16 z0 z1 kc ks :=
  br_t hz (br_c (fun e => nr_297 (nr_vf h11 (fun z => nr_v0 h16 e z.1)) h16 h12 hp) (fun e => br_c (fun e5 => br_c (fun e4 => nr_297 (nr_vt h11 ⟨nr_v1 h16 e, e5, e4⟩) h16 h12 hp) (fun e4 => nr_297 (nr_vf h11 (fun z => e4 z.2.2)) h16 h12 hp)) (fun e5 => nr_297 (nr_vf h11 (fun z => e5 z.2.1)) h16 h12 hp)))
theorem nr_257 (hz : z1 = z0) (h16 : nr_v G 1 0 x16) (h17 : nr_v S 1 0 x17) (h12 : nr_v (G ∧ x5 = 0) 1 0 x12) (h11 : nr_v (G ∧ x5 = 0 ∧ x4 = 0) 1 0 x11) (h10 : nr_v S 0 (-1) x10) (hp : post 1 ()) : wL_lawOf_257 post mc ms x4 x5 x10 x11 x12 x16 x17 z0 z1 kc ks :=
  br_t hz (br_c (fun e => nr_272 (nr_vf h10 (nr_v0 h17 e)) h16 h12 h11 hp) (fun e => nr_272 (nr_vt h10 (nr_v1 h17 e)) h16 h12 h11 hp))
theorem nr_242 (hz : z1 = z0) (h16 : nr_v G 1 0 x16) (h17 : nr_v S 1 0 x17) (h12 : nr_v (G ∧ x5 = 0) 1 0 x12) (h11 : nr_v (G ∧ x5 = 0 ∧ x4 = 0) 1 0 x11) (h10 : nr_v S 0 (-1) x10) (h9 : nr_v S 1 (-1) x9) (hp : post 1 ()) : wL_lawOf_242 post mc ms x4 x5 x9 x10 x11 x12 x16 x17 z0 z1 kc ks :=
  br_t hz (br_c (fun e => nr_257 (nr_vf h9 (nr_v0 h17 e)) h16 h17 h12 h11 h10 hp) (fun e => nr_257 (nr_vt h9 (nr_v1 h17 e)) h16 h17 h12 h11 h10 hp))
theorem nr_227 (hz : z1 = z0) (h16 : nr_v G 1 0 x16) (h17 : nr_v S 1 0 x17) (h12 : nr_v (G ∧ x5 = 0) 1 0 x12) (h11 : nr_v (G ∧ x5 = 0 ∧ x4 = 0) 1 0 x11) (h10 : nr_v S 0 (-1) x10) (h9 : nr_v S 1 (-1) x9) (h8 : nr_v G 0 (-1) x8) (hp : post 1 ()) : wL_lawOf_227 post mc ms x4 x5 x8 x9 x10 x11 x12 x16 x17 z0 z1 kc ks :=
  br_t hz (br_c (fun e => nr_242 (nr_vf h8 (nr_v0 h16 e)) h16 h17 h12 h11 h10 h9 hp) (fun e => nr_242 (nr_vt h8 (nr_v1 h16 e)) h16 h17 h12 h11 h10 h9 hp))
theorem nr_197 (h14 : nr_v P 1 0 x14) (h15 : nr_v X 1 0 x15) (h16 : nr_v G 1 0 x16) (h17 : nr_v S 1 0 x17) (h12 : nr_v (G ∧ x5 = 0) 1 0 x12) (h11 : nr_v (G ∧ x5 = 0 ∧ x4 = 0) 1 0 x11) (h10 : nr_v S 0 (-1) x10) (h9 : nr_v S 1 (-1) x9) (h8 : nr_v G 0 (-1) x8) (h7 : nr_v (P ∧ X ∧ x4 = 0 ∧ x3 = x5) 0 (-1) x7) (hp : post 1 ()) : wL_lawOf_197 post mc ms x3 x4 x5 x7 x8 x9 x10 x11 x12 x14 x15 x16 x17 kc ks :=
  br_c (fun e => nr_227 (nr_vf h7 (fun z => nr_v0 h14 e z.1)) h16 h17 h12 h11 h10 h9 h8 hp)
    (fun e => br_c (fun e' => nr_227 (nr_vf h7 (fun z => nr_v0 h15 e' z.2.1)) h16 h17 h12 h11 h10 h9 h8 hp)
      (fun e' => br_c (fun e4 => br_c (fun e5 => nr_227 (nr_vt h7 ⟨nr_v1 h14 e, nr_v1 h15 e', e4, e5⟩) h16 h17 h12 h11 h10 h9 h8 hp) (fun e5 => nr_227 (nr_vf h7 (fun z => e5 z.2.2.2)) h16 h17 h12 h11 h10 h9 h8 hp))
        (fun e4 => nr_227 (nr_vf h7 (fun z => e4 z.2.2.1)) h16 h17 h12 h11 h10 h9 h8 hp)))
theorem nr_174 (h14 : nr_v P 1 0 x14) (h15 : nr_v X 1 0 x15) (h16 : nr_v G 1 0 x16) (h12 : nr_v (G ∧ x5 = 0) 1 0 x12) (h11 : nr_v (G ∧ x5 = 0 ∧ x4 = 0) 1 0 x11) (h10 : nr_v (G ∧ x4 = 0 ∧ x5 = x3) 0 (-1) x10) (h9 : nr_v (G ∧ x4 = 0 ∧ x5 = x3) 1 (-1) x9) (h8 : nr_v G 0 (-1) x8) (h7 : nr_v (P ∧ X ∧ x4 = 0 ∧ x3 = x5) 0 (-1) x7) (hp : post 1 ()) : wL_lawOf_174 post mc ms x3 x4 x5 x7 x8 x9 x10 x11 x12 x14 x15 x16 kc ks :=
  br_c (fun e => nr_197 h14 h15 h16 (Or.inr ⟨fun z => nr_v0 h16 e z.1, rfl⟩) h12 h11 h10 h9 h8 h7 hp)
    (fun e => br_c (fun e4 => br_c (fun e5 => nr_197 h14 h15 h16 (Or.inl ⟨⟨nr_v1 h16 e, e4, e5⟩, rfl⟩) h12 h11 h10 h9 h8 h7 hp) (fun e5 => nr_197 h14 h15 h16 (Or.inr ⟨fun z => e5 z.2.2, rfl⟩) h12 h11 h10 h9 h8 h7 hp))
      (fun e4 => nr_197 h14 h15 h16 (Or.inr ⟨fun z => e4 z.2.1, rfl⟩) h12 h11 h10 h9 h8 h7 hp))
theorem nr_131 (hG : G ↔ ¬ x1 < 0 ∧ ¬ x13 ≤ x1 ∧ P ∧ ¬ x2 < 0 ∧ ¬ (2 : Int32) < x2 ∧ ¬ x4 < 0 ∧ ¬ (12 : Int32) < x4) (h14 : nr_v P 1 0 x14) (h15 : nr_v X 1 0 x15) (h12 : nr_v (G ∧ x5 = 0) 1 0 x12) (h11 : nr_v (G ∧ x5 = 0 ∧ x4 = 0) 1 0 x11) (h10 : nr_v (G ∧ x4 = 0 ∧ x5 = x3) 0 (-1) x10) (h9 : nr_v (G ∧ x4 = 0 ∧ x5 = x3) 1 (-1) x9) (h8 : nr_v G 0 (-1) x8) (h7 : nr_v (P ∧ X ∧ x4 = 0 ∧ x3 = x5) 0 (-1) x7) (hp : post 1 ()) : wL_lawOf_131 post mc ms x1 x2 x3 x4 x5 x7 x8 x9 x10 x11 x12 x13 x14 x15 kc ks := by
  have no : ¬ G → wL_lawOf_173 post mc ms x3 x4 x5 x7 x8 x9 x10 x11 x12 x14 x15 kc ks := fun hn => nr_174 h14 h15 (Or.inr ⟨hn, rfl⟩) h12 h11 h10 h9 h8 h7 hp
  refine br_c (fun e => no (fun z => (hG.mp z).1 e)) (fun e1 => ?_)
  refine br_c (fun e => no (fun z => (hG.mp z).2.1 e)) (fun e2 => ?_)
  refine br_c (fun e => no (fun z => nr_v0 h14 e (hG.mp z).2.2.1)) (fun e3 => ?_)
  refine br_c (fun e => no (fun z => (hG.mp z).2.2.2.1 e)) (fun e4 => ?_)
  refine br_c (fun e => no (fun z => (hG.mp z).2.2.2.2.1 e)) (fun e5 => ?_)
  refine br_c (fun e => no (fun z => (hG.mp z).2.2.2.2.2.1 e)) (fun e6 => ?_)
  refine br_c (fun e => no (fun z => (hG.mp z).2.2.2.2.2.2 e)) (fun e7 => ?_)
  exact nr_174 h14 h15 (Or.inl ⟨hG.mpr ⟨e1, e2, nr_v1 h14 e3, e4, e5, e6, e7⟩, rfl⟩) h12 h11 h10 h9 h8 h7 hp
theorem nr_95 (hG : G ↔ nr_pr x13 x1 ∧ nr_pr x13 x3 ∧ nr_nm x2 ∧ nr_pa x4) (h12 : nr_v (G ∧ x5 = 0) 1 0 x12) (h11 : nr_v (G ∧ x5 = 0 ∧ x4 = 0) 1 0 x11) (h10 : nr_v (G ∧ x4 = 0 ∧ x5 = x3) 0 (-1) x10) (h9 : nr_v (G ∧ x4 = 0 ∧ x5 = x3) 1 (-1) x9) (h8 : nr_v G 0 (-1) x8) (h7 : nr_v (nr_pr x13 x3 ∧ nr_pr x13 x5 ∧ x4 = 0 ∧ x3 = x5) 0 (-1) x7) (hp : post 1 ()) : wL_lawOf_95 post mc ms x1 x2 x3 x4 x5 x7 x8 x9 x10 x11 x12 x13 kc ks := by
  have h23 : (2 : Int32) < x2 ↔ (3 : Int32) ≤ x2 := by
    rw [Int32.lt_iff_toInt_lt, Int32.le_iff_toInt_le, show (2 : Int32).toInt = 2 by decide, show (3 : Int32).toInt = 3 by decide]
    omega
  have hG' : G ↔ ¬ x1 < 0 ∧ ¬ x13 ≤ x1 ∧ nr_pr x13 x3 ∧ ¬ x2 < 0 ∧ ¬ (2 : Int32) < x2 ∧ ¬ x4 < 0 ∧ ¬ (12 : Int32) < x4 := by
    rw [h23]
    exact ⟨fun g => ⟨(hG.mp g).1.1, (hG.mp g).1.2, (hG.mp g).2.1, (hG.mp g).2.2.1.1, (hG.mp g).2.2.1.2, (hG.mp g).2.2.2.1, (hG.mp g).2.2.2.2⟩, fun z => hG.mpr ⟨⟨z.1, z.2.1⟩, z.2.2.1, ⟨z.2.2.2.1, z.2.2.2.2.1⟩, ⟨z.2.2.2.2.2.1, z.2.2.2.2.2.2⟩⟩⟩
  have k3 : ∀ x14 x15, nr_v (nr_pr x13 x3) 1 0 x14 → nr_v (nr_pr x13 x5) 1 0 x15 → wL_lawOf_131 post mc ms x1 x2 x3 x4 x5 x7 x8 x9 x10 x11 x12 x13 x14 x15 kc ks := fun x14 x15 h14 h15 => nr_131 hG' h14 h15 h12 h11 h10 h9 h8 h7 hp
  have k2 : ∀ x14, nr_v (nr_pr x13 x3) 1 0 x14 → wL_lawOf_112 post mc ms x1 x2 x3 x4 x5 x7 x8 x9 x10 x11 x12 x13 x14 kc ks := fun x14 h14 =>
    br_c (fun e => k3 x14 0 h14 (Or.inr ⟨fun z => z.1 e, rfl⟩)) (fun e => br_c (fun e' => k3 x14 0 h14 (Or.inr ⟨fun z => z.2 e', rfl⟩)) (fun e' => k3 x14 1 h14 (Or.inl ⟨⟨e, e'⟩, rfl⟩)))
  exact br_c (fun e => k2 0 (Or.inr ⟨fun z => z.1 e, rfl⟩)) (fun e => br_c (fun e' => k2 0 (Or.inr ⟨fun z => z.2 e', rfl⟩)) (fun e' => k2 1 (Or.inl ⟨⟨e, e'⟩, rfl⟩)))
end
/-- behind the first question: the state holds no certificate; N is the number of principals -/
theorem nr_rest {post : Int32 → St0 → Prop} {mc ms kc ks N : Nat} (hN : N ≤ 6) {k n p t x r0 gs os sv : Int32} {a1 a2 a3 a4 a5 a6 a7 a8 a9 a10 a11 a12 : Nat → Int32} (hs : sv = 0 ∨ nr_M false 0 a8) (hr : nr_v (nr_pr (nI N) p ∧ nr_pr (nI N) x ∧ t = 0 ∧ p = x) 0 (-1) r0) (hp : post 1 ()) {C1 : Int32 → St2 → Prop} {C2 : Int32 → Int32 → St2 → Prop} {C3 : Int32 → Int32 → Int32 → St2 → Prop} {C4 : Int32 → Int32 → Int32 → Int32 → St2 → Prop} {C5 : Int32 → Int32 → Int32 → Int32 → Int32 → St2 → Prop}
    (k1 : ∀ r1 pr cs gs os sv a1 a2 a3 a4 a5 a6 a7 a8 a9 a10 a11 a12, wpX_cost (C2 r1) (pr, cs, gs, os, sv, a1, a2, a3, a4, a5, a6, a7, a8, a9, a10, a11, a12) k n x → C1 r1 (pr, cs, gs, os, sv, a1, a2, a3, a4, a5, a6, a7, a8, a9, a10, a11, a12))
    (k2 : ∀ r1 r2 pr cs gs os sv a1 a2 a3 a4 a5 a6 a7 a8 a9 a10 a11 a12, wpX_witness (C3 r1 r2) (pr, cs, gs, os, sv, a1, a2, a3, a4, a5, a6, a7, a8, a9, a10, a11, a12) k n x → C2 r1 r2 (pr, cs, gs, os, sv, a1, a2, a3, a4, a5, a6, a7, a8, a9, a10, a11, a12))
    (k3 : ∀ r1 r2 r3 pr cs gs os sv a1 a2 a3 a4 a5 a6 a7 a8 a9 a10 a11 a12, wpX_matters (C4 r1 r2 r3) (pr, cs, gs, os, sv, a1, a2, a3, a4, a5, a6, a7, a8, a9, a10, a11, a12) x → C3 r1 r2 r3 (pr, cs, gs, os, sv, a1, a2, a3, a4, a5, a6, a7, a8, a9, a10, a11, a12))
    (k4 : ∀ r1 r2 r3 r4 pr cs gs os sv a1 a2 a3 a4 a5 a6 a7 a8 a9 a10 a11 a12, wpX_revoke (C5 r1 r2 r3 r4) (pr, cs, gs, os, sv, a1, a2, a3, a4, a5, a6, a7, a8, a9, a10, a11, a12) x → C4 r1 r2 r3 r4 (pr, cs, gs, os, sv, a1, a2, a3, a4, a5, a6, a7, a8, a9, a10, a11, a12))
    (k5 : ∀ r1 r2 r3 r4 r5 pr cs gs os sv a1 a2 a3 a4 a5 a6 a7 a8 a9 a10 a11 a12, wL_lawOf_95 post mc ms k n p t x r0 r1 r2 r3 r4 r5 (nI N) kc ks → C5 r1 r2 r3 r4 r5 (pr, cs, gs, os, sv, a1, a2, a3, a4, a5, a6, a7, a8, a9, a10, a11, a12)) :
    wpX_certify C1 ((nI N), (nr_cs false), gs, os, sv, a1, a2, a3, a4, a5, a6, a7, a8, a9, a10, a11, a12) k n p t := by
  refine nr_certify (fun hg => ?_) (fun hg => ?_)
  · obtain ⟨k', hk', rfl⟩ := nr_prn hN hg.1
    obtain ⟨p', hp', rfl⟩ := nr_prn hN hg.2.1
    obtain ⟨n', hn', rfl⟩ := nr_nmn hg.2.2.1
    obtain ⟨t', ht', rfl⟩ := nr_pan hg.2.2.2
    have hb : (decide (t' = 0) = true) ↔ nI t' = 0 := by
      rw [decide_eq_true_iff]
      exact (nI_eq (a := t') (b := 0) (by omega) (by decide)).symm
    have hc : nr_ct true (decide (t' = 0)) k' n' p' (k' * 18 + n' * 6 + p') (upd a1 0 (nI k').toInt8.toInt32) (upd a2 0 (nI n').toInt8.toInt32) (upd a3 0 (nI p').toInt8.toInt32) (upd a4 0 (nI t').toInt8.toInt32) := by
      refine ⟨fun z => absurd z (by decide), fun _ => ⟨by omega, hn', by omega, rfl, ?_, ?_, ?_, ?_⟩⟩
      · rw [pk_us, nr_b8 _ (by omega)]
      · rw [pk_us, nr_b8 _ (by omega)]
      · rw [pk_us, nr_b8 _ (by omega)]
      · rw [pk_us, nr_b8 _ (by omega)]
        exact hb.symm
    have hQ : nr_Q (nI N) (decide (t' = 0)) k' n' p' (nI k') (nI n') x ↔ True ∧ nI t' = 0 ∧ x = nI p' :=
      ⟨fun q => ⟨trivial, hb.mp q.1, q.2.2.2.2.2.2⟩, fun z => ⟨hb.mpr z.2.1, hg.1, hg.2.2.1, by rw [z.2.2]; exact hg.2.1, rfl, rfl, z.2.2⟩⟩
    refine k1 _ _ _ _ _ _ _ _ _ _ _ _ _ _ _ _ _ _ (nr_cost hN hc (Or.inl rfl) (fun r2 sv2 b8 b9 h2 e2 => ?_))
    refine k2 _ _ _ _ _ _ _ _ _ _ _ _ _ _ _ _ _ _ _ (nr_witness hN hc h2 (fun r3 sv3 c8 c9 h3 e3 => ?_))
    refine k3 _ _ _ _ _ _ _ _ _ _ _ _ _ _ _ _ _ _ _ _ (nr_matters hc h3 (fun r4 sv4 d8 d9 d12 e4 => ?_))
    refine k4 _ _ _ _ _ _ _ _ _ _ _ _ _ _ _ _ _ _ _ _ _ (nr_revoke (fun r5 cs5 sv5 e5 => k5 _ _ _ _ _ _ _ _ _ _ _ _ _ _ _ _ _ _ _ _ _ _ ?_))
    refine nr_95 (G := True) ⟨fun _ => hg, fun _ => trivial⟩ (nr_vI e5 ⟨fun z => ⟨trivial, z.2⟩, fun z => ⟨rfl, z.2⟩⟩) (nr_vI e4 ⟨fun z => ⟨trivial, z.2.1, hb.mp z.2.2⟩, fun z => ⟨rfl, z.2.1, hb.mpr z.2.2⟩⟩) (nr_vI e3 hQ) (nr_vI e2 hQ) (Or.inl ⟨trivial, rfl⟩) hr hp
  · have hc : nr_ct false false 0 0 0 0 a1 a2 a3 a4 := ⟨fun _ => rfl, fun z => absurd z (by decide)⟩
    refine k1 _ _ _ _ _ _ _ _ _ _ _ _ _ _ _ _ _ _ (nr_cost hN hc hs (fun r2 sv2 b8 b9 h2 e2 => ?_))
    refine k2 _ _ _ _ _ _ _ _ _ _ _ _ _ _ _ _ _ _ _ (nr_witness hN hc h2 (fun r3 sv3 c8 c9 h3 e3 => ?_))
    refine k3 _ _ _ _ _ _ _ _ _ _ _ _ _ _ _ _ _ _ _ _ (nr_matters hc h3 (fun r4 sv4 d8 d9 d12 e4 => ?_))
    refine k4 _ _ _ _ _ _ _ _ _ _ _ _ _ _ _ _ _ _ _ _ _ (nr_revoke (fun r5 cs5 sv5 e5 => k5 _ _ _ _ _ _ _ _ _ _ _ _ _ _ _ _ _ _ _ _ _ _ ?_))
    have ff : ¬ (false = true) := by decide
    exact nr_95 (G := False) ⟨fun z => z.elim, fun z => hg z⟩ (nr_vI e5 ⟨fun z => absurd z.1 ff, fun z => z.1.elim⟩) (nr_vI e4 ⟨fun z => absurd z.1 ff, fun z => z.1.elim⟩) (nr_vI e3 ⟨fun z => absurd z.1 ff, fun z => z.1.elim⟩) (nr_vI e2 ⟨fun z => absurd z.1 ff, fun z => z.1.elim⟩) (Or.inr ⟨fun z => z.elim, rfl⟩) hr hp
end
section
theorem nr_law {post : Int32 → St0 → Prop} {p0 p1 p2 p3 p4 p5 : Int32} (hp : post 1 ()) : wpL_lawOf post 100 1000 () p0 p1 p2 p3 p4 p5 := by
  unfold wpL_lawOf
  refine ⟨by omega, by omega, 50, 500, by omega, by omega, ?_⟩
  refine ⟨by omega, by omega, by omega, by omega, by omega, by omega, by omega, by omega, by omega, by omega, by omega, by omega, by omega, by omega, by omega, by omega, by omega, by omega, by omega, by omega, by omega, by omega, by omega, by omega, ?_⟩
  refine br_c (fun h1 => br_c (fun h6 => ?_) (fun h6 => ?_)) (fun h1 => ?_)
  · obtain ⟨N, hN, rfl⟩ := nI_of2 (M := 6) (n := 6) (by decide) (fun z => absurd (Int32.lt_of_lt_of_le z (by decide)) (Int32.not_lt.mpr h1)) h6
    refine nr_denotes hN rfl (fun r sv' a8' a9' hs hr => ?_)
    exact nr_rest hN hs hr hp (fun _ _ _ _ _ _ _ _ _ _ _ _ _ _ _ _ _ _ h => h) (fun _ _ _ _ _ _ _ _ _ _ _ _ _ _ _ _ _ _ _ h => h) (fun _ _ _ _ _ _ _ _ _ _ _ _ _ _ _ _ _ _ _ _ h => h) (fun _ _ _ _ _ _ _ _ _ _ _ _ _ _ _ _ _ _ _ _ _ h => h) (fun _ _ _ _ _ _ _ _ _ _ _ _ _ _ _ _ _ _ _ _ _ _ h => br_t h1 (br_t h6 h))
  · refine nr_denotes (N := 6) (by omega) rfl (fun r sv' a8' a9' hs hr => ?_)
    exact nr_rest (by omega) hs hr hp (fun _ _ _ _ _ _ _ _ _ _ _ _ _ _ _ _ _ _ h => h) (fun _ _ _ _ _ _ _ _ _ _ _ _ _ _ _ _ _ _ _ h => h) (fun _ _ _ _ _ _ _ _ _ _ _ _ _ _ _ _ _ _ _ _ h => h) (fun _ _ _ _ _ _ _ _ _ _ _ _ _ _ _ _ _ _ _ _ _ h => h) (fun _ _ _ _ _ _ _ _ _ _ _ _ _ _ _ _ _ _ _ _ _ _ h => br_t h1 (br_f h6 h))
  · refine nr_denotes (N := 1) (by omega) rfl (fun r sv' a8' a9' hs hr => ?_)
    exact nr_rest (by omega) hs hr hp (fun _ _ _ _ _ _ _ _ _ _ _ _ _ _ _ _ _ _ h => h) (fun _ _ _ _ _ _ _ _ _ _ _ _ _ _ _ _ _ _ _ h => h) (fun _ _ _ _ _ _ _ _ _ _ _ _ _ _ _ _ _ _ _ _ h => h) (fun _ _ _ _ _ _ _ _ _ _ _ _ _ _ _ _ _ _ _ _ _ h => h) (fun _ _ _ _ _ _ _ _ _ _ _ _ _ _ _ _ _ _ _ _ _ _ h => br_f h1 h)
theorem nr_cellAt {post : Int32 → Prop} {L : Nat} {xs : Nat → Int32} {i : Nat} (hi : i < 2 ^ 31) (hL : L ≤ 6) (H : ∀ r, post r) : wpL_cellAt post L xs () (nI i) :=
  pk_le L i (fun _ => H _) (fun z => ⟨pk_in i L z, H _⟩)
theorem i_vc (xs : Nat → Int32) (L : Nat) (hL : L ≤ 6) : wpL_law (fun r => r = 1) L xs :=
  nr_cellAt (i := 0) (by decide) hL (fun _ => nr_cellAt (i := 1) (by decide) hL (fun _ => nr_cellAt (i := 2) (by decide) hL (fun _ => nr_cellAt (i := 3) (by decide) hL (fun _ => nr_cellAt (i := 4) (by decide) hL (fun _ => nr_cellAt (i := 5) (by decide) hL (fun _ => ⟨100, 1000, by omega, by omega, nr_law rfl⟩))))))
end
