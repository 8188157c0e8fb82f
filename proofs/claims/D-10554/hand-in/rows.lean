section
/-- 1 where settled, 0 where not -/
def qz_nz (x : Int32) : Nat := if x = 0 then 0 else 1
/-- how many claims of a level are settled -/
def qz_ct (a : Nat → Int32) (l : Nat) : Nat := qz_nz (a (4 * l)) + qz_nz (a (4 * l + 1)) + qz_nz (a (4 * l + 2)) + qz_nz (a (4 * l + 3))
/-- after t turns -/
def qz_lv (t : Nat) (a : Nat → Int32) : Prop := ∀ l, l < 4 → qz_ct a l = min 4 (t - 4 * l)
theorem qz_nz0 {x : Int32} (h : x = 0) : qz_nz x = 0 := if_pos h
theorem qz_nz1 {x : Int32} (h : ¬ x = 0) : qz_nz x = 1 := if_neg h
theorem qz_nzle (x : Int32) : qz_nz x ≤ 1 := by
  by_cases z : x = 0
  · rw [qz_nz0 z]; omega
  · rw [qz_nz1 z]; omega
theorem qz_free {t : Nat} {a : Nat → Int32} (h : qz_lv t a) (ht : t < 16) : ∃ k, 4 * (t / 4) ≤ k ∧ k < 4 * (t / 4) + 4 ∧ a k = 0 := by
  have e := h (t / 4) (by omega)
  unfold qz_ct at e
  by_cases h0 : a (4 * (t / 4)) = 0
  · exact ⟨_, by omega, by omega, h0⟩
  by_cases h1 : a (4 * (t / 4) + 1) = 0
  · exact ⟨_, by omega, by omega, h1⟩
  by_cases h2 : a (4 * (t / 4) + 2) = 0
  · exact ⟨_, by omega, by omega, h2⟩
  by_cases h3 : a (4 * (t / 4) + 3) = 0
  · exact ⟨_, by omega, by omega, h3⟩
  rw [qz_nz1 h0, qz_nz1 h1, qz_nz1 h2, qz_nz1 h3] at e
  omega
theorem qz_done {t j : Nat} {a : Nat → Int32} (h : qz_lv t a) (hj : j < 16) (ht : 4 * (j / 4) + 4 ≤ t) : ¬ a j = 0 := by
  obtain ⟨l, hl⟩ : ∃ l, l = j / 4 := ⟨_, rfl⟩
  have e := h l (by omega)
  unfold qz_ct at e
  have n0 := qz_nzle (a (4 * l))
  have n1 := qz_nzle (a (4 * l + 1))
  have n2 := qz_nzle (a (4 * l + 2))
  have n3 := qz_nzle (a (4 * l + 3))
  have hk : j = 4 * l ∨ j = 4 * l + 1 ∨ j = 4 * l + 2 ∨ j = 4 * l + 3 := by omega
  intro z
  rcases hk with k | k | k | k
  · rw [k] at z
    rw [qz_nz0 z] at e
    omega
  · rw [k] at z
    rw [qz_nz0 z] at e
    omega
  · rw [k] at z
    rw [qz_nz0 z] at e
    omega
  · rw [k] at z
    rw [qz_nz0 z] at e
    omega
theorem qz_step {t j : Nat} {a : Nat → Int32} (h : qz_lv t a) (ht : t < 16) (hj : j / 4 = t / 4) (h0 : a j = 0) : qz_lv (t + 1) (upd a j 1) := by
  intro l hl
  have e := h l hl
  unfold qz_ct at e ⊢
  have o : qz_nz 1 = 1 := by decide
  by_cases q : l = j / 4
  · have hk : j = 4 * l ∨ j = 4 * l + 1 ∨ j = 4 * l + 2 ∨ j = 4 * l + 3 := by omega
    rcases hk with k | k | k | k
    · rw [k] at h0 ⊢
      rw [pk_us, pk_un (show 4 * l + 1 ≠ 4 * l by omega), pk_un (show 4 * l + 2 ≠ 4 * l by omega), pk_un (show 4 * l + 3 ≠ 4 * l by omega), o]
      rw [qz_nz0 h0] at e
      omega
    · rw [k] at h0 ⊢
      rw [pk_us, pk_un (show 4 * l ≠ 4 * l + 1 by omega), pk_un (show 4 * l + 2 ≠ 4 * l + 1 by omega), pk_un (show 4 * l + 3 ≠ 4 * l + 1 by omega), o]
      rw [qz_nz0 h0] at e
      omega
    · rw [k] at h0 ⊢
      rw [pk_us, pk_un (show 4 * l ≠ 4 * l + 2 by omega), pk_un (show 4 * l + 1 ≠ 4 * l + 2 by omega), pk_un (show 4 * l + 3 ≠ 4 * l + 2 by omega), o]
      rw [qz_nz0 h0] at e
      omega
    · rw [k] at h0 ⊢
      rw [pk_us, pk_un (show 4 * l ≠ 4 * l + 3 by omega), pk_un (show 4 * l + 1 ≠ 4 * l + 3 by omega), pk_un (show 4 * l + 2 ≠ 4 * l + 3 by omega), o]
      rw [qz_nz0 h0] at e
      omega
  · rw [pk_un (show 4 * l ≠ j by omega), pk_un (show 4 * l + 1 ≠ j by omega), pk_un (show 4 * l + 2 ≠ j by omega), pk_un (show 4 * l + 3 ≠ j by omega)]
    omega
theorem qz_lv0 {a : Nat → Int32} (h : ∀ j, j < 16 → a j = 0) : qz_lv 0 a := by
  intro l hl
  unfold qz_ct
  rw [qz_nz0 (h _ (by omega)), qz_nz0 (h _ (by omega)), qz_nz0 (h _ (by omega)), qz_nz0 (h _ (by omega))]
  omega
theorem qz_nm1 {j : Nat} (h : j < 2 ^ 31) : ¬ nI j = -1 := by
  intro e
  have e1 := congrArg Int32.toInt e
  rw [nI_toInt h] at e1
  have e2 : (-1 : Int32).toInt = -1 := by decide
  omega
/-- a value kept for a claim that is settled now -/
theorem qz_val {b9 b11 O : Nat → Int32} {j : Nat} {x : Int32} (h : ∀ i, i < 16 → ¬ b11 i = 0 → b9 i = O i) (hx : x = O j) : ∀ i, i < 16 → ¬ upd b11 j 1 i = 0 → upd b9 j x i = O i := by
  intro i hi g
  by_cases e : i = j
  · rw [e, pk_us, hx]
  · rw [pk_un e] at g ⊢
    exact h i hi g
end
section
section
variable {ds cnt sk cur : Int32} {a1 a2 a3 a4 a5 a6 a7 a8 a9 a10 a11 a12 a13 : Nat → Int32}
theorem qz_worth0 {post : Int32 → Prop} (h3 : a3 0 = 0) (hp : post (100 * a2 0 / 100)) : wpX_worth post (ds, cnt, sk, cur, a1, a2, a3, a4, a5, a6, a7, a8, a9, a10, a11, a12, a13) 0 :=
  Exists.intro 1 (And.intro (pk_in 0 20 (by decide)) (br_t (by show a3 0 ≤ 0; rw [h3]; decide) ⟨pk_in 0 20 (by decide), by decide, hp⟩))
theorem qz_worth1 {post : Int32 → Prop} {c : Nat} {x : Int32} (h3 : a3 0 = 1) (h4 : a4 0 = nI c) (hc : c < 16) (hx0 : a5 0 = 0 → a9 c = x) (hx1 : ¬ a5 0 = 0 → 100 - a9 c = x) (hle : x ≤ 100) (hp : post (x * a2 0 / 100)) : wpX_worth post (ds, cnt, sk, cur, a1, a2, a3, a4, a5, a6, a7, a8, a9, a10, a11, a12, a13) 0 := by
  have K : ∀ n, wX_worth_5 post 0 ds cnt sk cur a1 a2 a3 a4 a5 a6 a7 a8 a9 a10 a11 a12 a13 (n + 1) x 1 := fun n =>
    And.intro (pk_in 0 20 (by decide)) (br_t (by show a3 0 ≤ 1; rw [h3]; decide) ⟨pk_in 0 20 (by decide), by decide, hp⟩)
  have J : wX_worth_55 post (wX_worth_5 post 0 ds cnt sk cur a1 a2 a3 a4 a5 a6 a7 a8 a9 a10 a11 a12 a13 1) 0 100 0 x ds cnt sk cur a1 a2 a3 a4 a5 a6 a7 a8 a9 a10 a11 a12 a13 := by
    unfold wX_worth_55
    refine br_c (fun g => nm_r (show (0 : Int32) + 1 = 1 by decide) ?_) (fun g => nm_r (show (0 : Int32) + 1 = 1 by decide) (K 0))
    have e : x = 100 := Int32.le_antisymm hle g
    rw [e] at K
    exact K 0
  have e4 : a4 ((3 * 0 : Int32) + 0).toNatClampNeg = nI c := h4
  refine Exists.intro 2 (And.intro (pk_in 0 20 (by decide)) (br_f (by show ¬ a3 0 ≤ 0; rw [h3]; decide) ⟨pk_in 0 60 (by decide), pk_in c 16 hc e4, nm_r (e' := a9 c) (by rw [e4, nI_clamp (show c < 2 ^ 31 by omega)]) ⟨pk_in 0 60 (by decide), ?_⟩⟩))
  refine br_c (fun g => ?_) (fun g => ?_)
  · rw [hx0 g]
    exact J
  · rw [hx1 g]
    exact J
theorem qz_mo {post : St2 → Prop} {h : Nat} {w : Int32} (hh : h < 16) (h1 : a1 0 = nI h) (hw : ∀ p' : Int32 → Prop, p' w → wpX_worth p' (ds, cnt, -1, cur, a1, a2, a3, a4, a5, a6, a7, a8, a9, a10, a11, a12, a13) 0)
    (A : ¬ a11 h = 0 → post (ds, cnt, -1, cur, a1, a2, a3, a4, a5, a6, a7, a8, a9, a10, a11, a12, a13)) (B : a11 h = 0 → w ≤ a10 h → post (ds, cnt, -1, cur, a1, a2, a3, a4, a5, a6, a7, a8, a9, a10, a11, a12, a13)) (C : a11 h = 0 → ¬ w ≤ a10 h → post (ds, cnt, -1, cur, a1, a2, a3, a4, a5, a6, a7, a8, a9, upd a10 h w, a11, a12, a13)) : wpX_makeOffer post (ds, cnt, -1, cur, a1, a2, a3, a4, a5, a6, a7, a8, a9, a10, a11, a12, a13) 0 := by
  have e1 : a1 (0 : Int32).toNatClampNeg = nI h := h1
  refine And.intro (pk_in 0 20 (by decide)) (nm_r e1 (br_f (by decide) ⟨pk_in h 16 hh, ?_⟩))
  rw [nI_clamp (show h < 2 ^ 31 by omega)]
  exact br_c (fun g => hw _ ⟨pk_in h 16 hh, br_c (fun g2 => B g g2) (fun g2 => ⟨pk_in h 16 hh, nm_e (C g g2)⟩)⟩) (fun g => A g)
theorem qz_countA {post : St2 → Prop} {x : Int32} (h3 : a3 0 = 0) (h12 : a12 0 = 0) (hp : post (ds, cnt, sk, cur, a1, a2, a3, a4, a5, a6, a7, a8, a9, a10, a11, a12, a13)) : wpX_count post (ds, cnt, sk, cur, a1, a2, a3, a4, a5, a6, a7, a8, a9, a10, a11, a12, a13) 0 x :=
  And.intro (pk_in 0 20 (by decide)) (nm_r (show a12 (0 : Int32).toNatClampNeg = 0 from h12) (Exists.intro 1 (And.intro (pk_in 0 20 (by decide)) (br_t (by show a3 0 ≤ 0; rw [h3]; decide) (br_t (by decide) hp)))))
theorem qz_countB {post : St2 → Prop} {c j : Nat} (h3 : a3 0 = 1) (h4 : a4 0 = nI c) (hc : c < 16) (hj : j < 16) (hcj : c ≠ j) (h12 : a12 0 = 0 ∨ a12 0 = 1) (hp : post (ds, cnt, sk, cur, a1, a2, a3, a4, a5, a6, a7, a8, a9, a10, a11, a12, a13)) : wpX_count post (ds, cnt, sk, cur, a1, a2, a3, a4, a5, a6, a7, a8, a9, a10, a11, a12, a13) 0 (nI j) := by
  have K : ∀ n, wX_count_10 post 0 (nI j) (a12 0) ds cnt sk cur (n + 1) 1 a1 a2 a3 a4 a5 a6 a7 a8 a9 a10 a11 a12 a13 := by
    intro n
    refine And.intro (pk_in 0 20 (by decide)) (br_t (by show a3 0 ≤ 1; rw [h3]; decide) ?_)
    rcases h12 with z | z
    · exact br_t (by rw [z]; decide) hp
    · exact br_f (by rw [z]; decide) ⟨pk_in 0 20 (by decide), br_f (by show ¬ a12 0 = 0; rw [z]; decide) hp⟩
  refine And.intro (pk_in 0 20 (by decide)) (nm_r (show a12 (0 : Int32).toNatClampNeg = a12 0 from rfl) (Exists.intro 2 (And.intro (pk_in 0 20 (by decide)) (br_f (by show ¬ a3 0 ≤ 0; rw [h3]; decide) ⟨pk_in 0 60 (by decide), br_f ?_ (nm_r (show (0 : Int32) + 1 = 1 by decide) (K 0))⟩))))
  show ¬ a4 0 = nI j
  rw [h4, nI_eq (by omega) (by omega)]
  exact hcj
theorem qz_countC {post : St2 → Prop} {c h : Nat} {w : Int32} (h3 : a3 0 = 1) (h4 : a4 0 = nI c) (h12 : a12 0 = 1) (hh : h < 16) (h1 : a1 0 = nI h) (hw : ∀ p' : Int32 → Prop, p' w → wpX_worth p' (ds, cnt, -1, cur, a1, a2, a3, a4, a5, a6, a7, a8, a9, a10, a11, upd a12 0 0, a13) 0)
    (A : ¬ a11 h = 0 → post (ds, cnt, -1, cur, a1, a2, a3, a4, a5, a6, a7, a8, a9, a10, a11, upd a12 0 0, a13)) (B : a11 h = 0 → w ≤ a10 h → post (ds, cnt, -1, cur, a1, a2, a3, a4, a5, a6, a7, a8, a9, a10, a11, upd a12 0 0, a13)) (C : a11 h = 0 → ¬ w ≤ a10 h → post (ds, cnt, -1, cur, a1, a2, a3, a4, a5, a6, a7, a8, a9, upd a10 h w, a11, upd a12 0 0, a13)) : wpX_count post (ds, cnt, -1, cur, a1, a2, a3, a4, a5, a6, a7, a8, a9, a10, a11, a12, a13) 0 (nI c) := by
  have K : ∀ n, wX_count_10 post 0 (nI c) 1 ds cnt (-1) cur (n + 1) 1 a1 a2 a3 a4 a5 a6 a7 a8 a9 a10 a11 (upd a12 0 0) a13 := by
    intro n
    exact And.intro (pk_in 0 20 (by decide)) (br_t (by show a3 0 ≤ 1; rw [h3]; decide) (br_f (by decide) ⟨pk_in 0 20 (by decide), br_t (show upd a12 0 0 0 = 0 from pk_us) (qz_mo hh h1 hw A B C)⟩))
  have e12 : upd a12 (0 : Int32).toNatClampNeg (a12 (0 : Int32).toNatClampNeg - 1) = upd a12 0 0 := by
    show upd a12 0 (a12 0 - 1) = upd a12 0 0
    rw [h12]
    rfl
  exact And.intro (pk_in 0 20 (by decide)) (nm_r (show a12 (0 : Int32).toNatClampNeg = 1 from h12) (Exists.intro 2 (And.intro (pk_in 0 20 (by decide)) (br_f (by show ¬ a3 0 ≤ 0; rw [h3]; decide) ⟨pk_in 0 60 (by decide), br_t (show a4 0 = nI c from h4) ⟨pk_in 0 20 (by decide), pk_in 0 20 (by decide), nm_r e12 (nm_r (show (0 : Int32) + 1 = 1 by decide) (K 0))⟩⟩))))
theorem qz_121n {post : St2 → Prop} {J : Int32 → Int32 → Int32 → Int32 → Int32 → (Nat → Int32) → (Nat → Int32) → (Nat → Int32) → (Nat → Int32) → (Nat → Int32) → (Nat → Int32) → (Nat → Int32) → (Nat → Int32) → (Nat → Int32) → (Nat → Int32) → (Nat → Int32) → (Nat → Int32) → (Nat → Int32) → Prop} {x1 x2 : Int32} (H : J (x1 + 1) ds 0 sk cur a1 a2 a3 a4 a5 a6 a7 a8 a9 a10 a11 a12 a13) : ∃ n, wX_settleAll_121 post J x1 x2 n 0 ds 0 sk cur a1 a2 a3 a4 a5 a6 a7 a8 a9 a10 a11 a12 a13 :=
  Exists.intro 1 (br_t (by decide) (nm_e H))
theorem qz_121s {post : St2 → Prop} {J : Int32 → Int32 → Int32 → Int32 → Int32 → (Nat → Int32) → (Nat → Int32) → (Nat → Int32) → (Nat → Int32) → (Nat → Int32) → (Nat → Int32) → (Nat → Int32) → (Nat → Int32) → (Nat → Int32) → (Nat → Int32) → (Nat → Int32) → (Nat → Int32) → (Nat → Int32) → Prop} {x1 x2 : Int32} (R : (Nat → Int32) → (Nat → Int32) → Prop) (hC : ∀ p' : St2 → Prop, (∀ b10 b12, R b10 b12 → p' (ds, 1, sk, cur, a1, a2, a3, a4, a5, a6, a7, a8, a9, b10, a11, b12, a13)) → wpX_count p' (ds, 1, sk, cur, a1, a2, a3, a4, a5, a6, a7, a8, a9, a10, a11, a12, a13) 0 x2)
    (H : ∀ b10 b12, R b10 b12 → J (x1 + 1) ds 1 sk cur a1 a2 a3 a4 a5 a6 a7 a8 a9 b10 a11 b12 a13) : ∃ n, wX_settleAll_121 post J x1 x2 n 0 ds 1 sk cur a1 a2 a3 a4 a5 a6 a7 a8 a9 a10 a11 a12 a13 :=
  Exists.intro 2 (br_f (by decide) (hC _ (fun b10 b12 r => nm_r (show (0 : Int32) + 1 = 1 by decide) (br_t (by decide) (nm_e (H b10 b12 r))))))
theorem qz_best {post : Int32 → Prop} {f : Nat} (hf : f + 4 ≤ 16) (hu : ∃ k, f ≤ k ∧ k < f + 4 ∧ a11 k = 0)
    (H : ∀ j, f ≤ j → j < f + 4 → a11 j = 0 → (∀ k, f ≤ k → k < f + 4 → a11 k = 0 → a10 k ≤ a10 j) → post (nI j)) : wpX_best post (ds, cnt, sk, cur, a1, a2, a3, a4, a5, a6, a7, a8, a9, a10, a11, a12, a13) (nI f) := by
  refine pk_loop (fun n i (s : Int32) => wX_best_4 post (nI f) ds cnt sk cur a1 a2 a3 a4 a5 a6 a7 a8 a9 a10 a11 a12 a13 n s (nI i))
    (fun i s => f ≤ i ∧ ((s = -1 ∧ ∀ k, f ≤ k → k < i → ¬ a11 k = 0) ∨ ∃ j, f ≤ j ∧ j < i ∧ s = nI j ∧ a11 j = 0 ∧ ∀ k, f ≤ k → k < i → a11 k = 0 → a10 k ≤ a10 j))
    (f + 4) f (-1) (by omega) ⟨Nat.le_refl f, Or.inl ⟨rfl, fun k h1 h2 => absurd h1 (by omega)⟩⟩ ?_ ?_
  · intro n s h
    obtain ⟨_, h⟩ := h
    refine pk_le (f + 4) (f + 4) (fun _ => ?_) (fun z => absurd z (by omega)) (nI_add f 4)
    rcases h with ⟨hs, h⟩ | ⟨j, j1, j2, hs, j3, h⟩
    · obtain ⟨k, k1, k2, k3⟩ := hu
      exact absurd k3 (h k k1 k2)
    · subst hs
      exact br_f (qz_nm1 (by omega)) (H j j1 j2 j3 h)
  · intro n i s hi h hw
    obtain ⟨hfi, h⟩ := h
    refine pk_le (f + 4) i (fun z => absurd z (by omega)) (fun _ => ⟨pk_in i 16 (by omega), ?_⟩) (nI_add f 4)
    rw [nI_clamp (show i < 2 ^ 31 by omega)]
    refine br_c (fun g => ?_) (fun g => nm_r (nI_1 i) (hw _ ⟨by omega, ?_⟩))
    · rcases h with ⟨hs, h⟩ | ⟨j, j1, j2, hs, j3, h⟩
      · refine br_t hs (nm_r (nI_1 i) (hw _ ⟨by omega, Or.inr ⟨i, by omega, by omega, rfl, g, fun k k1 k2 k3 => ?_⟩⟩))
        by_cases e : k = i
        · rw [e]
          exact Int32.le_refl _
        · exact absurd k3 (h k k1 (by omega))
      · subst hs
        refine br_f (qz_nm1 (by omega)) ⟨pk_in i 16 (by omega), pk_in j 16 (by omega), ?_⟩
        rw [nI_clamp (show j < 2 ^ 31 by omega)]
        refine br_c (fun q => nm_r (nI_1 i) (hw _ ⟨by omega, Or.inr ⟨j, j1, by omega, rfl, j3, fun k k1 k2 k3 => ?_⟩⟩)) (fun q => nm_r (nI_1 i) (hw _ ⟨by omega, Or.inr ⟨i, by omega, by omega, rfl, g, fun k k1 k2 k3 => ?_⟩⟩))
        · by_cases e : k = i
          · rw [e]
            exact q
          · exact h k k1 (by omega) k3
        · by_cases e : k = i
          · rw [e]
            exact Int32.le_refl _
          · exact Int32.le_trans (h k k1 (by omega) k3) (Int32.le_of_lt (Int32.not_le.mp q))
    · rcases h with ⟨hs, h⟩ | ⟨j, j1, j2, hs, j3, h⟩
      · refine Or.inl ⟨hs, fun k k1 k2 => ?_⟩
        by_cases e : k = i
        · rw [e]
          exact g
        · exact h k k1 (by omega)
      · refine Or.inr ⟨j, j1, by omega, hs, j3, fun k k1 k2 k3 => ?_⟩
        by_cases e : k = i
        · rw [e] at k3
          exact absurd k3 g
        · exact h k k1 (by omega) k3
end
end
section
section
variable {ds cnt sk cur : Int32} {a1 a2 a3 a4 a5 a6 a7 a8 a9 a10 a11 a12 a13 : Nat → Int32}
/-- the turns, under any invariant that a turn keeps -/
theorem qz_84 {post : St2 → Prop} (Inv : Nat → (Nat → Int32) → (Nat → Int32) → (Nat → Int32) → (Nat → Int32) → Prop)
    (hlv : ∀ t b9 b10 b11 b12, Inv t b9 b10 b11 b12 → qz_lv t b11)
    (hstep : ∀ (t : Nat) (b9 b10 b11 b12 : Nat → Int32) (j : Nat) (J : Int32 → Int32 → Int32 → Int32 → Int32 → (Nat → Int32) → (Nat → Int32) → (Nat → Int32) → (Nat → Int32) → (Nat → Int32) → (Nat → Int32) → (Nat → Int32) → (Nat → Int32) → (Nat → Int32) → (Nat → Int32) → (Nat → Int32) → (Nat → Int32) → (Nat → Int32) → Prop), t < 16 → j < 16 → j / 4 = t / 4 → Inv t b9 b10 b11 b12 → b11 j = 0 → (∀ k, k / 4 = t / 4 → b11 k = 0 → b10 k ≤ b10 j) →
      (∀ c9 c10 c11 c12, Inv (t + 1) c9 c10 c11 c12 → J (nI t + 1) ds cnt sk cur a1 a2 a3 a4 a5 a6 a7 a8 c9 c10 c11 c12 a13) → ∃ n, wX_settleAll_121 post J (nI t) (nI j) n 0 ds cnt sk cur a1 a2 a3 a4 a5 a6 a7 a8 (upd b9 j (b10 j)) b10 (upd b11 j 1) b12 a13)
    (hend : ∀ b9 b10 b11 b12, Inv 16 b9 b10 b11 b12 → post (ds, cnt, sk, cur, a1, a2, a3, a4, a5, a6, a7, a8, b9, b10, b11, b12, a13))
    (h0 : Inv 0 a9 a10 a11 a12) : ∃ n, wX_settleAll_84 post n 0 ds cnt sk cur a1 a2 a3 a4 a5 a6 a7 a8 a9 a10 a11 a12 a13 := by
  refine pk_loop (fun n i (s : (Nat → Int32) × (Nat → Int32) × (Nat → Int32) × (Nat → Int32)) => wX_settleAll_84 post n (nI i) ds cnt sk cur a1 a2 a3 a4 a5 a6 a7 a8 s.1 s.2.1 s.2.2.1 s.2.2.2 a13) (fun i s => Inv i s.1 s.2.1 s.2.2.1 s.2.2.2) 16 0 (a9, a10, a11, a12) (by omega) h0 ?_ ?_
  · intro n s h
    exact pk_le 16 16 (fun _ => hend _ _ _ _ h) (fun z => absurd z (by omega))
  · intro n t s ht h hw
    obtain ⟨b9, b10, b11, b12⟩ := s
    have e : (4 * (nI t >>> ((2 : Int32) &&& 31)) : Int32) = nI (4 * (t / 4)) := by
      rw [pk_shrN (show t < 2 ^ 31 by omega) _ 2 (by decide)]
      exact pk_mul 4 (t / 4)
    refine pk_le 16 t (fun z => absurd z (by omega)) (fun _ => ?_)
    rw [e]
    refine qz_best (by omega) (qz_free (hlv _ _ _ _ _ h) ht) (fun j j1 j2 j3 hm => ?_)
    refine ⟨pk_in j 16 (by omega), nm_r (e' := upd b11 j 1) (by rw [nI_clamp (show j < 2 ^ 31 by omega)]) ⟨pk_in j 16 (by omega), pk_in j 16 (by omega), nm_r (e' := upd b9 j (b10 j)) (by rw [nI_clamp (show j < 2 ^ 31 by omega)]) ?_⟩⟩
    exact hstep t b9 b10 b11 b12 j _ ht (by omega) (by omega) h j3 (fun k k1 k2 => hm k (by omega) (by omega) k2) (fun c9 c10 c11 c12 hc => by rw [nI_1]; exact hw (c9, c10, c11, c12) hc)
/-- no rule waits: the offers stand -/
def qz_I0 (O : Nat → Int32) (t : Nat) (b9 b10 b11 b12 : Nat → Int32) : Prop := qz_lv t b11 ∧ (∀ i, i < 16 → ¬ b11 i = 0 → b9 i = O i) ∧ (∀ i, i < 16 → b10 i = O i) ∧ b12 0 = 0
/-- rule 0 has the premise c -/
def qz_I2 (S O : Nat → Int32) (c t : Nat) (b9 b10 b11 b12 : Nat → Int32) : Prop := qz_lv t b11 ∧ (∀ i, i < 16 → ¬ b11 i = 0 → b9 i = O i) ∧ (b11 c = 0 → b12 0 = 1 ∧ (∀ i, i < 16 → b10 i = S i) ∧ ∀ i, i < 16 → ¬ b11 i = 0 → S i = O i) ∧ (¬ b11 c = 0 → b12 0 = 0 ∧ ∀ i, i < 16 → b10 i = O i)
/-- what the picture O of the end is, for a rule of the premise c and the head h that is worth w -/
def qz_O2 (S O : Nat → Int32) (c h : Nat) (w : Int32) : Prop := c < 16 ∧ h < 16 ∧ c / 4 ≤ h / 4 ∧ (∀ i, i < 16 → i ≠ h → S i = O i) ∧ (h = c → S h = O h) ∧ (h ≠ c → O h = w ∧ S h = 0 ∧ 0 ≤ w ∧ (c / 4 = h / 4 → S c ≤ 0 → w = 0))
theorem qz_t0 {post : St2 → Prop} {O : Nat → Int32} (hn : cnt = 0 ∨ cnt = 1 ∧ a3 0 = 0) (H : ∀ b9 b10 b11 b12, (∀ i, i < 16 → b9 i = O i) → post (ds, cnt, sk, cur, a1, a2, a3, a4, a5, a6, a7, a8, b9, b10, b11, b12, a13))
    (h11 : ∀ i, i < 16 → a11 i = 0) (h10 : ∀ i, i < 16 → a10 i = O i) (h12 : a12 0 = 0) : ∃ n, wX_settleAll_84 post n 0 ds cnt sk cur a1 a2 a3 a4 a5 a6 a7 a8 a9 a10 a11 a12 a13 := by
  refine qz_84 (qz_I0 O) (fun t b9 b10 b11 b12 h => h.1) ?_ ?_ ?_
  · intro t b9 b10 b11 b12 j J ht hj hjt h hj0 hm hJ
    obtain ⟨i1, i2, i3, i4⟩ := h
    have N : qz_I0 O (t + 1) (upd b9 j (b10 j)) b10 (upd b11 j 1) b12 := ⟨qz_step i1 ht hjt hj0, qz_val i2 (i3 j hj), i3, i4⟩
    rcases hn with e | ⟨e, h3⟩
    · subst e
      exact qz_121n (hJ _ _ _ _ N)
    · subst e
      refine qz_121s (fun d10 d12 => d10 = b10 ∧ d12 = b12) (fun p' hp => qz_countA h3 i4 (hp b10 b12 ⟨rfl, rfl⟩)) ?_
      intro d10 d12 r
      rw [r.1, r.2]
      exact hJ _ _ _ _ N
  · intro b9 b10 b11 b12 h
    exact H _ _ _ _ (fun i hi => h.2.1 i hi (qz_done h.1 hi (by omega)))
  · exact ⟨qz_lv0 h11, fun i hi g => absurd (h11 i hi) g, h10, h12⟩
theorem qz_t2 {post : St2 → Prop} {O : Nat → Int32} {c h : Nat} {x w : Int32} (h3 : a3 0 = 1) (h4 : a4 0 = nI c) (h1 : a1 0 = nI h) (hx0 : a5 0 = 0 → a8 c = x) (hx1 : ¬ a5 0 = 0 → 100 - a8 c = x) (hle : x ≤ 100) (hw : x * a2 0 / 100 = w) (hO : qz_O2 a8 O c h w)
    (H : ∀ b9 b10 b11 b12, (∀ i, i < 16 → b9 i = O i) → post (ds, 1, -1, cur, a1, a2, a3, a4, a5, a6, a7, a8, b9, b10, b11, b12, a13))
    (h11 : ∀ i, i < 16 → a11 i = 0) (h10 : ∀ i, i < 16 → a10 i = a8 i) (h12 : a12 0 = 1) : ∃ n, wX_settleAll_84 post n 0 ds 1 (-1) cur a1 a2 a3 a4 a5 a6 a7 a8 a9 a10 a11 a12 a13 := by
  obtain ⟨hc, hh, hl, oN, oE, oD⟩ := hO
  have hOc : a8 c = O c := by
    by_cases e : h = c
    · rw [← e]
      exact oE e
    · exact oN c hc (fun z => e z.symm)
  refine qz_84 (qz_I2 a8 O c) (fun t b9 b10 b11 b12 h => h.1) ?_ ?_ ?_
  · intro t b9 b10 b11 b12 j J ht hj hjt hI hj0 hm hJ
    obtain ⟨i1, i2, i3, i4⟩ := hI
    have N1 := qz_step i1 ht hjt hj0
    by_cases ejc : j = c
    · subst ejc
      obtain ⟨k1, k2, k3⟩ := i3 hj0
      refine qz_121s (fun d10 d12 => d12 0 = 0 ∧ ∀ i, i < 16 → d10 i = O i) (fun p' hp => ?_) (fun d10 d12 r => ?_)
      · refine qz_countC (w := w) h3 h4 k1 hh h1 (fun p' q => ?_) (fun g => ?_) (fun g g2 => ?_) (fun g g2 => ?_)
        · refine qz_worth1 (x := x) h3 h4 hj ?_ ?_ hle (by rw [hw]; exact q)
          · intro z
            rw [pk_us, k2 j hj]
            exact hx0 z
          · intro z
            rw [pk_us, k2 j hj]
            exact hx1 z
        · refine hp _ _ ⟨pk_us, fun i hi => ?_⟩
          rw [k2 i hi]
          by_cases e : i = h
          · rw [e]
            by_cases e2 : h = j
            · exact oE e2
            · rw [pk_un e2] at g
              exact k3 h hh g
          · exact oN i hi e
        · have e2 : h ≠ j := by
            intro z
            rw [z, pk_us] at g
            exact absurd g (by decide)
          obtain ⟨o1, o2, o3, _⟩ := oD e2
          refine hp _ _ ⟨pk_us, fun i hi => ?_⟩
          rw [k2 i hi]
          by_cases e : i = h
          · rw [e, o1, o2]
            rw [k2 h hh, o2] at g2
            exact Int32.le_antisymm o3 g2
          · exact oN i hi e
        · have e2 : h ≠ j := by
            intro z
            rw [z, pk_us] at g
            exact absurd g (by decide)
          obtain ⟨o1, o2, o3, _⟩ := oD e2
          refine hp _ _ ⟨pk_us, fun i hi => ?_⟩
          by_cases e : i = h
          · rw [e, pk_us, o1]
          · rw [pk_un e, k2 i hi]
            exact oN i hi e
      · refine hJ _ _ _ _ ⟨N1, qz_val i2 (by rw [k2 j hj]; exact hOc), fun g => ?_, fun _ => r⟩
        rw [pk_us] at g
        exact absurd g (by decide)
    · have ecj : c ≠ j := fun z => ejc z.symm
      have hb12 : b12 0 = 0 ∨ b12 0 = 1 := by
        by_cases g : b11 c = 0
        · exact Or.inr (i3 g).1
        · exact Or.inl (i4 g).1
      have hSO : b11 c = 0 → a8 j = O j := by
        intro g
        by_cases e : j = h
        · obtain ⟨k1, k2, k3⟩ := i3 g
          obtain ⟨o1, o2, o3, o4⟩ := oD (fun z => ejc (e.trans z))
          have lc : ¬ 4 * (c / 4) + 4 ≤ t := fun z => qz_done i1 hc z g
          have hct : c / 4 = t / 4 := by
            rw [e] at hjt
            omega
          have m1 := hm c hct g
          rw [k2 c hc, k2 j hj, e, o2] at m1
          rw [e, o2, o1]
          exact (o4 (by rw [e] at hjt; omega) m1).symm
        · exact oN j hj e
      have hbO : b10 j = O j := by
        by_cases g : b11 c = 0
        · rw [(i3 g).2.1 j hj]
          exact hSO g
        · exact (i4 g).2 j hj
      have N : qz_I2 a8 O c (t + 1) (upd b9 j (b10 j)) b10 (upd b11 j 1) b12 := by
        refine ⟨N1, qz_val i2 hbO, fun g => ?_, fun g => ?_⟩
        · rw [pk_un ecj] at g
          obtain ⟨k1, k2, k3⟩ := i3 g
          refine ⟨k1, k2, fun i hi g2 => ?_⟩
          by_cases e : i = j
          · rw [e]
            exact hSO g
          · rw [pk_un e] at g2
            exact k3 i hi g2
        · rw [pk_un ecj] at g
          exact i4 g
      refine qz_121s (fun d10 d12 => d10 = b10 ∧ d12 = b12) (fun p' hp => qz_countB h3 h4 hc hj ecj hb12 (hp b10 b12 ⟨rfl, rfl⟩)) ?_
      intro d10 d12 r
      rw [r.1, r.2]
      exact hJ _ _ _ _ N
  · intro b9 b10 b11 b12 g
    exact H _ _ _ _ (fun i hi => g.2.1 i hi (qz_done g.1 hi (by omega)))
  · refine ⟨qz_lv0 h11, fun i hi g => absurd (h11 i hi) g, fun _ => ⟨h12, h10, fun i hi g => absurd (h11 i hi) g⟩, fun g => absurd (h11 c hc) g⟩
theorem qz_42_0 {post : St2 → Prop} (H : ∃ n, wX_settleAll_84 post n 0 ds 0 sk cur a1 a2 a3 a4 a5 a6 a7 a8 a9 a10 a11 a12 a13) : ∃ n, wX_settleAll_42 post n 0 ds 0 sk cur a1 a2 a3 a4 a5 a6 a7 a8 a9 a10 a11 a12 a13 :=
  Exists.intro 1 (br_t (by decide) H)
theorem qz_42_2 {post : St2 → Prop} (h3 : a3 0 = 1) (H : ∃ n, wX_settleAll_84 post n 0 ds 1 sk cur a1 a2 a3 a4 a5 a6 a7 a8 a9 a10 a11 (upd a12 0 1) a13) : ∃ n, wX_settleAll_42 post n 0 ds 1 sk cur a1 a2 a3 a4 a5 a6 a7 a8 a9 a10 a11 a12 a13 :=
  Exists.intro 2 (br_f (by decide) ⟨pk_in 0 20 (by decide), pk_in 0 20 (by decide), nm_r (e' := upd a12 0 1) (by show upd a12 0 (a3 0) = upd a12 0 1; rw [h3]) ⟨pk_in 0 20 (by decide), br_f (by show ¬ a3 0 = 0; rw [h3]; decide) (nm_r (show (0 : Int32) + 1 = 1 by decide) (br_t (by decide) H))⟩⟩)
theorem qz_42_1 {post : St2 → Prop} {h : Nat} {w : Int32} (h3 : a3 0 = 0) (hh : h < 16) (h1 : a1 0 = nI h) (hw : 100 * a2 0 / 100 = w) (h11 : a11 h = 0) (h10 : ¬ w ≤ a10 h) (H : ∃ n, wX_settleAll_84 post n 0 ds 1 (-1) cur a1 a2 a3 a4 a5 a6 a7 a8 a9 (upd a10 h w) a11 (upd a12 0 0) a13) : ∃ n, wX_settleAll_42 post n 0 ds 1 (-1) cur a1 a2 a3 a4 a5 a6 a7 a8 a9 a10 a11 a12 a13 :=
  Exists.intro 2 (br_f (by decide) ⟨pk_in 0 20 (by decide), pk_in 0 20 (by decide), nm_r (e' := upd a12 0 0) (by show upd a12 0 (a3 0) = upd a12 0 0; rw [h3]) ⟨pk_in 0 20 (by decide), br_t (show a3 0 = 0 from h3) (qz_mo hh h1 (fun p' q => qz_worth0 h3 (by rw [hw]; exact q)) (fun g => absurd h11 g) (fun _ g => absurd g h10) (fun _ _ => nm_r (show (0 : Int32) + 1 = 1 by decide) (br_t (by decide) H)))⟩⟩)
theorem qz_s2 {post : St2 → Prop} (H : ∀ b9 b10 b11, (∀ i, i < 16 → b11 i = 0 ∧ b10 i = a8 i) → ∃ n, wX_settleAll_42 post n 0 ds cnt sk cur a1 a2 a3 a4 a5 a6 a7 a8 b9 b10 b11 a12 a13) : wpX_settleAll post (ds, cnt, sk, cur, a1, a2, a3, a4, a5, a6, a7, a8, a9, a10, a11, a12, a13) := by
  refine pk_loop (fun n i (s : (Nat → Int32) × (Nat → Int32) × (Nat → Int32)) => wX_settleAll_2 post ds cnt sk cur n (nI i) a1 a2 a3 a4 a5 a6 a7 a8 s.1 s.2.1 s.2.2 a12 a13) (fun i s => ∀ j, j < i → s.2.2 j = 0 ∧ s.2.1 j = a8 j) 16 0 (a9, a10, a11) (by omega) (fun j hj => absurd hj (by omega)) ?_ ?_
  · intro n s h
    exact pk_le 16 16 (fun _ => H _ _ _ h) (fun z => absurd z (by omega))
  · intro n i s hi h hw
    obtain ⟨b9, b10, b11⟩ := s
    have ci : (nI i).toNatClampNeg = i := nI_clamp (by omega)
    refine pk_le 16 i (fun z => absurd z (by omega)) (fun _ => ⟨pk_in i 16 hi, nm_r (e' := upd b11 i 0) (by rw [ci]) ⟨pk_in i 16 hi, nm_r (e' := upd b9 i 0) (by rw [ci]) ⟨pk_in i 16 hi, pk_in i 16 hi, nm_r (e' := upd b10 i (a8 i)) (by rw [ci]) (nm_r (nI_1 i) (hw (upd b9 i 0, upd b10 i (a8 i), upd b11 i 0) ?_))⟩⟩⟩)
    intro j hj
    show upd b11 i 0 j = 0 ∧ upd b10 i (a8 i) j = a8 j
    by_cases e : j = i
    · rw [e]
      exact ⟨pk_us, pk_us⟩
    · rw [pk_un e, pk_un e]
      exact h j (by omega)
theorem qz_settle0 {post : St2 → Prop} (h12 : a12 0 = 0) (H : ∀ b9 b10 b11 b12, (∀ i, i < 16 → b9 i = a8 i) → post (ds, 0, sk, cur, a1, a2, a3, a4, a5, a6, a7, a8, b9, b10, b11, b12, a13)) : wpX_settleAll post (ds, 0, sk, cur, a1, a2, a3, a4, a5, a6, a7, a8, a9, a10, a11, a12, a13) :=
  qz_s2 (fun b9 b10 b11 h => qz_42_0 (qz_t0 (O := a8) (Or.inl rfl) H (fun i hi => (h i hi).1) (fun i hi => (h i hi).2) h12))
theorem qz_settle1 {post : St2 → Prop} {h : Nat} {w : Int32} (h3 : a3 0 = 0) (hh : h < 16) (h1 : a1 0 = nI h) (hw : 100 * a2 0 / 100 = w) (h8 : ¬ w ≤ a8 h) (H : ∀ b9 b10 b11 b12, (∀ i, i < 16 → b9 i = upd a8 h w i) → post (ds, 1, -1, cur, a1, a2, a3, a4, a5, a6, a7, a8, b9, b10, b11, b12, a13)) : wpX_settleAll post (ds, 1, -1, cur, a1, a2, a3, a4, a5, a6, a7, a8, a9, a10, a11, a12, a13) := by
  refine qz_s2 (fun b9 b10 b11 g => qz_42_1 h3 hh h1 hw (g h hh).1 (by rw [(g h hh).2]; exact h8) (qz_t0 (O := upd a8 h w) (Or.inr ⟨rfl, h3⟩) H (fun i hi => (g i hi).1) (fun i hi => ?_) pk_us))
  by_cases e : i = h
  · rw [e, pk_us, pk_us]
  · rw [pk_un e, pk_un e]
    exact (g i hi).2
theorem qz_settle2 {post : St2 → Prop} {O : Nat → Int32} {c h : Nat} {x w : Int32} (h3 : a3 0 = 1) (h4 : a4 0 = nI c) (h1 : a1 0 = nI h) (hx0 : a5 0 = 0 → a8 c = x) (hx1 : ¬ a5 0 = 0 → 100 - a8 c = x) (hle : x ≤ 100) (hw : x * a2 0 / 100 = w) (hO : qz_O2 a8 O c h w)
    (H : ∀ b9 b10 b11 b12, (∀ i, i < 16 → b9 i = O i) → post (ds, 1, -1, cur, a1, a2, a3, a4, a5, a6, a7, a8, b9, b10, b11, b12, a13)) : wpX_settleAll post (ds, 1, -1, cur, a1, a2, a3, a4, a5, a6, a7, a8, a9, a10, a11, a12, a13) :=
  qz_s2 (fun b9 b10 b11 g => qz_42_2 h3 (qz_t2 h3 h4 h1 hx0 hx1 hle hw hO H (fun i hi => (g i hi).1) (fun i hi => (g i hi).2) pk_us))
end
end
section
section
variable {ds cnt sk cur : Int32} {a1 a2 a3 a4 a5 a6 a7 a8 a9 a10 a11 a12 a13 : Nat → Int32}
theorem qz_15 {x : Int32} (h : 15 < x) : 16 ≤ x := by
  have a := Int32.lt_iff_toInt_lt.mp h
  have e : (15 : Int32).toInt = 15 := by decide
  have e2 : (16 : Int32).toInt = 16 := by decide
  refine Int32.le_iff_toInt_le.mpr ?_
  omega
theorem qz_icT {p : Int32 → Prop} {h : Nat} (hh : h < 16) (hp : p 1) : wpX_isClaim p () (nI h) :=
  br_f (nI_pos (by omega)) (pk_le 16 h (fun z => absurd z (by omega)) (fun _ => hp))
theorem qz_icF {p : Int32 → Prop} {x : Int32} (hx : x < 0 ∨ 15 < x) (hp : p 0) : wpX_isClaim p () x := by
  rcases hx with h | h
  · exact br_t h hp
  · exact br_c (fun _ => hp) (fun _ => br_t (qz_15 h) hp)
theorem qz_certN {p : Int32 → St2 → Prop} {x : Int32} (hx : x < 0 ∨ 15 < x) (hp : p (-1) (ds, cnt, sk, cur, a1, a2, a3, a4, a5, a6, a7, a8, a9, a10, a11, a12, a13)) : wpX_certainty p (ds, cnt, sk, cur, a1, a2, a3, a4, a5, a6, a7, a8, a9, a10, a11, a12, a13) x := by
  unfold wpX_certainty
  exact qz_icF hx (br_t rfl hp)
theorem qz_certS {p : Int32 → St2 → Prop} {O : Nat → Int32} {h : Nat} (hh : h < 16) (Hs : ∀ p' : St2 → Prop, (∀ b9 b10 b11 b12, (∀ i, i < 16 → b9 i = O i) → p' (ds, cnt, sk, 0, a1, a2, a3, a4, a5, a6, a7, a8, b9, b10, b11, b12, a13)) → wpX_settleAll p' (ds, cnt, sk, 0, a1, a2, a3, a4, a5, a6, a7, a8, a9, a10, a11, a12, a13))
    (hp : ∀ b9 b10 b11 b12, (∀ i, i < 16 → b9 i = O i) → p (O h) (ds, cnt, sk, 1, a1, a2, a3, a4, a5, a6, a7, a8, b9, b10, b11, b12, a13)) : wpX_certainty p (ds, cnt, sk, 0, a1, a2, a3, a4, a5, a6, a7, a8, a9, a10, a11, a12, a13) (nI h) := by
  unfold wpX_certainty
  refine qz_icT hh (br_f (by decide) ?_)
  unfold wpX_refresh
  refine br_t rfl (Hs _ (fun b9 b10 b11 b12 hb => ?_))
  have K : p (b9 (nI h).toNatClampNeg) (ds, cnt, sk, 1, a1, a2, a3, a4, a5, a6, a7, a8, b9, b10, b11, b12, a13) := by
    rw [nI_clamp (show h < 2 ^ 31 by omega), hb h hh]
    exact hp b9 b10 b11 b12 hb
  exact And.intro (pk_in h 16 hh) K
theorem qz_yield0 {p : Int32 → St2 → Prop} (hp : p (-1) (ds, 0, sk, cur, a1, a2, a3, a4, a5, a6, a7, a8, a9, a10, a11, a12, a13)) : wpX_yield p (ds, 0, sk, cur, a1, a2, a3, a4, a5, a6, a7, a8, a9, a10, a11, a12, a13) 0 := by
  unfold wpX_yield
  exact br_f (by decide) (br_t (by decide) (br_t rfl hp))
theorem qz_yield1 {p : Int32 → St2 → Prop} {w : Int32} (hw : ∀ p' : Int32 → Prop, p' w → wpX_worth p' (ds, 1, sk, 1, a1, a2, a3, a4, a5, a6, a7, a8, a9, a10, a11, a12, a13) 0) (hp : p w (ds, 1, sk, 1, a1, a2, a3, a4, a5, a6, a7, a8, a9, a10, a11, a12, a13)) : wpX_yield p (ds, 1, sk, 1, a1, a2, a3, a4, a5, a6, a7, a8, a9, a10, a11, a12, a13) 0 := by
  unfold wpX_yield
  refine br_f (by decide) (br_f (by decide) (br_f (by decide) ?_))
  unfold wpX_refresh
  exact br_f (by decide) (hw _ hp)
theorem qz_supN {p : Int32 → St2 → Prop} {x : Int32} (hx : x < 0 ∨ 15 < x) (hp : p (-1) (ds, cnt, sk, cur, a1, a2, a3, a4, a5, a6, a7, a8, a9, a10, a11, a12, a13)) : wpX_supporter p (ds, cnt, sk, cur, a1, a2, a3, a4, a5, a6, a7, a8, a9, a10, a11, a12, a13) x := by
  unfold wpX_supporter
  exact qz_icF hx (br_t rfl hp)
theorem qz_sup0 {p : Int32 → St2 → Prop} {h : Nat} (hh : h < 16) (hp : p (-2) (ds, 0, sk, 1, a1, a2, a3, a4, a5, a6, a7, a8, a9, a10, a11, a12, a13)) : wpX_supporter p (ds, 0, sk, 1, a1, a2, a3, a4, a5, a6, a7, a8, a9, a10, a11, a12, a13) (nI h) := by
  unfold wpX_supporter
  refine qz_icT hh (br_f (by decide) ?_)
  unfold wpX_refresh
  exact br_f (by decide) (Exists.intro 1 (br_t (by decide) hp))
theorem qz_sup1 {p : Int32 → St2 → Prop} {h : Nat} {w : Int32} (hh : h < 16) (h1 : a1 0 = nI h) (hw : ∀ p' : Int32 → Prop, p' w → wpX_worth p' (ds, 1, sk, 1, a1, a2, a3, a4, a5, a6, a7, a8, a9, a10, a11, a12, a13) 0)
    (A : a9 h ≤ 0 → p (-2) (ds, 1, sk, 1, a1, a2, a3, a4, a5, a6, a7, a8, a9, a10, a11, a12, a13)) (B : ¬ a9 h ≤ 0 → w = a9 h → p 0 (ds, 1, sk, 1, a1, a2, a3, a4, a5, a6, a7, a8, a9, a10, a11, a12, a13)) (C : ¬ a9 h ≤ 0 → ¬ w = a9 h → p (-2) (ds, 1, sk, 1, a1, a2, a3, a4, a5, a6, a7, a8, a9, a10, a11, a12, a13)) : wpX_supporter p (ds, 1, sk, 1, a1, a2, a3, a4, a5, a6, a7, a8, a9, a10, a11, a12, a13) (nI h) := by
  have K : ∀ n, p (-2) (ds, 1, sk, 1, a1, a2, a3, a4, a5, a6, a7, a8, a9, a10, a11, a12, a13) → wX_supporter_15 p (nI h) ds 1 sk 1 a1 a2 a3 a4 a5 a6 a7 a8 a9 a10 a11 a12 a13 (n + 1) 1 := fun n q => br_t (by decide) q
  have ch : (nI h).toNatClampNeg = h := nI_clamp (by omega)
  have L : ((a9 (nI h).toNatClampNeg ≤ 0 → p (-2) (ds, 1, sk, 1, a1, a2, a3, a4, a5, a6, a7, a8, a9, a10, a11, a12, a13))) := by
    rw [ch]
    exact A
  have M : ¬ a9 (nI h).toNatClampNeg ≤ 0 → w = a9 (nI h).toNatClampNeg → p 0 (ds, 1, sk, 1, a1, a2, a3, a4, a5, a6, a7, a8, a9, a10, a11, a12, a13) := by
    rw [ch]
    exact B
  have N : ¬ a9 (nI h).toNatClampNeg ≤ 0 → ¬ w = a9 (nI h).toNatClampNeg → p (-2) (ds, 1, sk, 1, a1, a2, a3, a4, a5, a6, a7, a8, a9, a10, a11, a12, a13) := by
    rw [ch]
    exact C
  unfold wpX_supporter
  refine qz_icT hh (br_f (by decide) ?_)
  unfold wpX_refresh
  refine br_f (by decide) (Exists.intro 2 (br_f (by decide) ⟨pk_in 0 20 (by decide), br_t (show a1 0 = nI h from h1) ⟨pk_in h 16 hh, ?_⟩⟩))
  exact br_c (fun g => nm_r (show (0 : Int32) + 1 = 1 by decide) (K 0 (L g))) (fun g => hw _ ⟨pk_in h 16 hh, br_c (fun g2 => M g g2) (fun g2 => nm_r (show (0 : Int32) + 1 = 1 by decide) (K 0 (N g g2)))⟩)
end
section
variable {post : Int32 → St0 → Prop} {mc ms kc ks : Nat} {ds cnt sk cur : Int32} {a1 a2 a3 a4 a5 a6 a7 a8 a9 a10 a11 a12 a13 : Nat → Int32}
/-- the head is no claim -/
theorem qz_336n {x2 x16 z0 : Int32} (hx : x2 < 0 ∨ 15 < x2) (hp : post 1 ()) : wL_lawOf_336 post mc ms x2 0 0 x16 z0 kc ks ds 0 sk cur a1 a2 a3 a4 a5 a6 a7 a8 a9 a10 a11 a12 a13 := by
  have A : wL_lawOf_420 post mc ms (-1) (-1) kc ks := br_t rfl hp
  have B : wL_lawOf_377 post mc ms x2 0 0 x16 z0 (-1) (-1) kc ks ds 0 sk cur a1 a2 a3 a4 a5 a6 a7 a8 a9 a10 a11 a12 a13 := by
    unfold wL_lawOf_377
    exact br_t rfl (qz_supN hx (br_t rfl A))
  have C : wL_lawOf_355 post mc ms x2 0 0 x16 z0 (-1) (-1) kc ks ds 0 sk cur a1 a2 a3 a4 a5 a6 a7 a8 a9 a10 a11 a12 a13 := by
    unfold wL_lawOf_355
    exact br_t rfl (qz_yield0 (br_t rfl B))
  unfold wL_lawOf_336
  exact qz_certN hx (br_t rfl C)
/-- no rule was made -/
theorem qz_336u {x16 d : Int32} {h : Nat} (hh : h < 16) (h12 : a12 0 = 0) (h8 : a8 h = d) (hp : post 1 ()) : wL_lawOf_336 post mc ms (nI h) 1 0 x16 d kc ks ds 0 sk 0 a1 a2 a3 a4 a5 a6 a7 a8 a9 a10 a11 a12 a13 := by
  have A : wL_lawOf_418 post mc ms (-2) kc ks := by
    unfold wL_lawOf_418
    exact br_t rfl hp
  have B : ∀ b9 b10 b11 b12, wL_lawOf_377 post mc ms (nI h) 1 0 x16 d (-1) (-1) kc ks ds 0 sk 1 a1 a2 a3 a4 a5 a6 a7 a8 b9 b10 b11 b12 a13 := by
    intro b9 b10 b11 b12
    unfold wL_lawOf_377
    exact br_t rfl (qz_sup0 hh (br_f (by decide) (br_t rfl A)))
  have C : ∀ b9 b10 b11 b12, wL_lawOf_355 post mc ms (nI h) 1 0 x16 d d d kc ks ds 0 sk 1 a1 a2 a3 a4 a5 a6 a7 a8 b9 b10 b11 b12 a13 := by
    intro b9 b10 b11 b12
    unfold wL_lawOf_355
    exact br_t rfl (qz_yield0 (br_t rfl (B b9 b10 b11 b12)))
  subst h8
  unfold wL_lawOf_336
  exact qz_certS hh (fun p' q => qz_settle0 h12 q) (fun b9 b10 b11 b12 _ => br_f (by decide) (C b9 b10 b11 b12))
/-- a rule was made: it asks w, the head is due d -/
theorem qz_336m {O : Nat → Int32} {w d : Int32} {h : Nat} (hh : h < 16) (h1 : a1 0 = nI h) (hd : O h = d) (Hs : ∀ p' : St2 → Prop, (∀ b9 b10 b11 b12, (∀ i, i < 16 → b9 i = O i) → p' (ds, 1, -1, 0, a1, a2, a3, a4, a5, a6, a7, a8, b9, b10, b11, b12, a13)) → wpX_settleAll p' (ds, 1, -1, 0, a1, a2, a3, a4, a5, a6, a7, a8, a9, a10, a11, a12, a13))
    (hw : ∀ b9 b10 b11 b12, (∀ i, i < 16 → b9 i = O i) → ∀ p' : Int32 → Prop, p' w → wpX_worth p' (ds, 1, -1, 1, a1, a2, a3, a4, a5, a6, a7, a8, b9, b10, b11, b12, a13) 0) (hp : post 1 ()) : wL_lawOf_336 post mc ms (nI h) 1 1 w d kc ks ds 1 (-1) 0 a1 a2 a3 a4 a5 a6 a7 a8 a9 a10 a11 a12 a13 := by
  have A : wL_lawOf_418 post mc ms (-2) kc ks := by
    unfold wL_lawOf_418
    exact br_t rfl hp
  have A0 : wL_lawOf_420 post mc ms 0 0 kc ks := br_t rfl hp
  have B : ∀ b9 b10 b11 b12, (∀ i, i < 16 → b9 i = O i) → wL_lawOf_377 post mc ms (nI h) 1 1 w d w w kc ks ds 1 (-1) 1 a1 a2 a3 a4 a5 a6 a7 a8 b9 b10 b11 b12 a13 := by
    intro b9 b10 b11 b12 hb
    have e : b9 h = d := (hb h hh).trans hd
    unfold wL_lawOf_377
    refine br_t rfl (qz_sup1 hh h1 (hw b9 b10 b11 b12 hb) (fun g => ?_) (fun g g2 => ?_) (fun g g2 => ?_))
    · rw [e] at g
      exact br_f (by decide) (br_f (by decide) (br_c (fun _ => br_t g A) (fun _ => A)))
    · rw [e] at g g2
      exact br_f (by decide) (br_f (by decide) (br_t g2 (br_f g A0)))
    · rw [e] at g g2
      exact br_f (by decide) (br_f (by decide) (br_f g2 A))
  have C : ∀ b9 b10 b11 b12, (∀ i, i < 16 → b9 i = O i) → wL_lawOf_355 post mc ms (nI h) 1 1 w d d d kc ks ds 1 (-1) 1 a1 a2 a3 a4 a5 a6 a7 a8 b9 b10 b11 b12 a13 := by
    intro b9 b10 b11 b12 hb
    unfold wL_lawOf_355
    exact br_t rfl (qz_yield1 (hw b9 b10 b11 b12 hb) (br_f (by decide) (B b9 b10 b11 b12 hb)))
  subst hd
  unfold wL_lawOf_336
  exact qz_certS hh Hs (fun b9 b10 b11 b12 hb => br_f (by decide) (C b9 b10 b11 b12 hb))
/-- what is due: the head is no claim -/
theorem qz_258n {x0 x1 x2 x3 x6 z0 : Int32} (hx : x2 < 0 ∨ 15 < x2) (hp : post 1 ()) : wL_lawOf_258 post mc ms x0 x1 x2 x3 x6 0 0 z0 kc ks ds 0 sk cur a1 a2 a3 a4 a5 a6 a7 a8 a9 a10 a11 a12 a13 := by
  have P : ∀ x16 y, wL_lawOf_320 post mc ms x2 0 0 x16 y kc ks ds 0 sk cur a1 a2 a3 a4 a5 a6 a7 a8 a9 a10 a11 a12 a13 := fun x16 y => br_c (fun _ => qz_336n hx hp) (fun _ => qz_336n hx hp)
  have P' : ∀ x16, wL_lawOf_319 post mc ms x2 0 0 x16 kc ks ds 0 sk cur a1 a2 a3 a4 a5 a6 a7 a8 a9 a10 a11 a12 a13 := by
    intro x16
    unfold wL_lawOf_319
    exact P x16 0
  have Q : ∀ x14 y, wL_lawOf_302 post mc ms x0 x2 x6 0 0 x14 y kc ks ds 0 sk cur a1 a2 a3 a4 a5 a6 a7 a8 a9 a10 a11 a12 a13 := fun x14 y => br_c (fun _ => P' y) (fun _ => br_c (fun _ => P y x14) (fun _ => P' y))
  have R : ∀ x14 y, wL_lawOf_284 post mc ms x0 x2 x3 x6 0 0 x14 y kc ks ds 0 sk cur a1 a2 a3 a4 a5 a6 a7 a8 a9 a10 a11 a12 a13 := fun x14 y => br_t rfl (Q x14 0)
  exact br_c (fun _ => R z0 100) (fun _ => br_c (fun _ => R z0 z0) (fun _ => R z0 (100 - z0)))
/-- no rule, the claim is none -/
theorem qz_258v {x0 x1 x3 : Int32} {h : Nat} (hh : h < 16) (h12 : a12 0 = 0) (h8 : a8 h = 0) (hp : post 1 ()) : wL_lawOf_258 post mc ms x0 x1 (nI h) x3 0 1 0 0 kc ks ds 0 sk 0 a1 a2 a3 a4 a5 a6 a7 a8 a9 a10 a11 a12 a13 := by
  have P : wL_lawOf_320 post mc ms (nI h) 1 0 0 0 kc ks ds 0 sk 0 a1 a2 a3 a4 a5 a6 a7 a8 a9 a10 a11 a12 a13 := br_t (by decide) (qz_336u hh h12 h8 hp)
  have P' : wL_lawOf_319 post mc ms (nI h) 1 0 0 kc ks ds 0 sk 0 a1 a2 a3 a4 a5 a6 a7 a8 a9 a10 a11 a12 a13 := by
    unfold wL_lawOf_319
    exact P
  have Q : wL_lawOf_302 post mc ms x0 (nI h) 0 1 0 0 0 kc ks ds 0 sk 0 a1 a2 a3 a4 a5 a6 a7 a8 a9 a10 a11 a12 a13 := br_t rfl P'
  have R : wL_lawOf_284 post mc ms x0 (nI h) x3 0 1 0 0 100 kc ks ds 0 sk 0 a1 a2 a3 a4 a5 a6 a7 a8 a9 a10 a11 a12 a13 := br_t rfl Q
  exact br_t rfl R
/-- no rule, the claim c is seen v -/
theorem qz_258u {x1 x3 : Int32} {c h v : Nat} (hc : c < 16) (hh : h < 16) (hv : v ≤ 100) (h12 : a12 0 = 0) (h8c : a8 c = nI v) (h8 : ∀ i, i < 16 → i ≠ c → a8 i = 0) (hp : post 1 ()) : wL_lawOf_258 post mc ms (nI c) x1 (nI h) x3 1 1 0 (nI v) kc ks ds 0 sk 0 a1 a2 a3 a4 a5 a6 a7 a8 a9 a10 a11 a12 a13 := by
  have Q : wL_lawOf_302 post mc ms (nI c) (nI h) 1 1 0 (nI v) 0 kc ks ds 0 sk 0 a1 a2 a3 a4 a5 a6 a7 a8 a9 a10 a11 a12 a13 := by
    refine br_f (by decide) (pk_eq h c (fun e => ?_) (fun e => ?_))
    · exact br_t (nI_pos' (by omega)) (qz_336u hh h12 (by rw [e]; exact h8c) hp)
    · unfold wL_lawOf_319
      exact br_t (by decide) (qz_336u hh h12 (h8 h hh e) hp)
  have R : ∀ y, wL_lawOf_284 post mc ms (nI c) (nI h) x3 1 1 0 (nI v) y kc ks ds 0 sk 0 a1 a2 a3 a4 a5 a6 a7 a8 a9 a10 a11 a12 a13 := fun y => br_t rfl Q
  exact br_f (by decide) (br_c (fun _ => R (nI v)) (fun _ => R (100 - nI v)))
/-- a rule without premises -/
theorem qz_258r {x0 x1 : Int32} {h s : Nat} (hh : h < 16) (hs0 : 1 ≤ s) (hs : s ≤ 100) (h1 : a1 0 = nI h) (h2 : a2 0 = nI s) (h3 : a3 0 = 0) (h8 : a8 h = 0) (hp : post 1 ()) : wL_lawOf_258 post mc ms x0 x1 (nI h) (nI s) 0 1 1 0 kc ks ds 1 (-1) 0 a1 a2 a3 a4 a5 a6 a7 a8 a9 a10 a11 a12 a13 := by
  have e : (100 : Int32) * nI s / 100 = nI s := by
    have e1 : (100 : Int32) * nI s = nI (100 * s) := pk_mul 100 s
    have e2 : nI (100 * s) / 100 = nI (100 * s / 100) := pk_div (d := 100) (by omega) (by omega) (by omega)
    rw [e1, e2]
    congr 1
    omega
  have hw : 100 * a2 0 / 100 = nI s := by
    rw [h2]
    exact e
  have g : ¬ nI s ≤ a8 h := by
    rw [h8]
    exact nI_nle (by omega) (by omega)
  have K : wL_lawOf_336 post mc ms (nI h) 1 1 (nI s) (nI s) kc ks ds 1 (-1) 0 a1 a2 a3 a4 a5 a6 a7 a8 a9 a10 a11 a12 a13 :=
    qz_336m (O := upd a8 h (nI s)) hh h1 pk_us (fun p' q => qz_settle1 h3 hh h1 hw g q) (fun b9 b10 b11 b12 _ p' q => qz_worth0 h3 (by rw [hw]; exact q)) hp
  have P : wL_lawOf_319 post mc ms (nI h) 1 1 (nI s) kc ks ds 1 (-1) 0 a1 a2 a3 a4 a5 a6 a7 a8 a9 a10 a11 a12 a13 := by
    unfold wL_lawOf_319
    exact br_f (nI_nle (by omega) (by omega)) K
  have Q : wL_lawOf_302 post mc ms x0 (nI h) 0 1 1 0 (nI s) kc ks ds 1 (-1) 0 a1 a2 a3 a4 a5 a6 a7 a8 a9 a10 a11 a12 a13 := br_t rfl P
  have R : wL_lawOf_284 post mc ms x0 (nI h) (nI s) 0 1 1 0 100 kc ks ds 1 (-1) 0 a1 a2 a3 a4 a5 a6 a7 a8 a9 a10 a11 a12 a13 := by
    unfold wL_lawOf_284
    rw [e]
    exact br_f (by decide) ⟨by decide, Q⟩
  exact br_t rfl R
/-- a rule of the premise c -/
theorem qz_258m {x1 : Int32} {c h v s : Nat} (hc : c < 16) (hh : h < 16) (hv : v ≤ 100) (hs0 : 1 ≤ s) (hs : s ≤ 100) (hl : c / 4 ≤ h / 4) (hn : ¬ x1 = 0 → c / 4 < h / 4) (h1 : a1 0 = nI h) (h2 : a2 0 = nI s) (h3 : a3 0 = 1) (h4 : a4 0 = nI c) (h5 : a5 0 = 0 ↔ x1 = 0)
    (h8c : a8 c = nI v) (h8 : ∀ i, i < 16 → i ≠ c → a8 i = 0) (hp : post 1 ()) : wL_lawOf_258 post mc ms (nI c) x1 (nI h) (nI s) 1 1 1 (nI v) kc ks ds 1 (-1) 0 a1 a2 a3 a4 a5 a6 a7 a8 a9 a10 a11 a12 a13 := by
  have e100 : (100 : Int32) - nI v = nI (100 - v) := pk_sub hv
  have main : ∀ m, m ≤ 100 → (x1 = 0 → v = m) → (¬ x1 = 0 → 100 - v = m) → wL_lawOf_284 post mc ms (nI c) (nI h) (nI s) 1 1 1 (nI v) (nI m) kc ks ds 1 (-1) 0 a1 a2 a3 a4 a5 a6 a7 a8 a9 a10 a11 a12 a13 := by
    intro m hm m0 m1
    have hms : m * s ≤ 10000 := Nat.mul_le_mul hm hs
    obtain ⟨q, hq⟩ : ∃ q, q = m * s / 100 := ⟨_, rfl⟩
    have e : nI m * nI s / 100 = nI q := by
      have e2 : nI (m * s) / 100 = nI (m * s / 100) := pk_div (d := 100) (by omega) (by omega) (by omega)
      rw [pk_mul, e2, hq]
    have hw : nI m * a2 0 / 100 = nI q := by
      rw [h2]
      exact e
    have hle : nI m ≤ 100 := nI_le (b := 100) hm (by omega)
    have hqm : q ≤ m := by
      have t : m * s ≤ m * 100 := Nat.mul_le_mul_left m hs
      omega
    have x0' : a5 0 = 0 → a8 c = nI m := by
      intro z
      rw [h8c, m0 (h5.mp z)]
    have x1' : ¬ a5 0 = 0 → 100 - a8 c = nI m := by
      intro z
      rw [h8c, e100, m1 (fun y => z (h5.mpr y))]
    have K : ∀ D, (h = c → nI v = D) → (h ≠ c → D = nI q) → wL_lawOf_336 post mc ms (nI h) 1 1 (nI q) D kc ks ds 1 (-1) 0 a1 a2 a3 a4 a5 a6 a7 a8 a9 a10 a11 a12 a13 := by
      intro D d1 d2
      have hO : qz_O2 a8 (upd a8 h D) c h (nI q) := by
        refine ⟨hc, hh, hl, fun i _ hi => (pk_un hi).symm, fun z => ?_, fun z => ⟨?_, h8 h hh z, nI_pos' (by omega), fun l0 z0 => ?_⟩⟩
        · rw [pk_us, ← d1 z, z]
          exact h8c
        · rw [pk_us]
          exact d2 z
        · have y : x1 = 0 := by
            by_cases y : x1 = 0
            · exact y
            · exact absurd (hn y) (by omega)
          have hv0 : v = 0 := by
            rw [h8c] at z0
            rcases Nat.lt_or_ge 0 v with z1 | z1
            · exact absurd z0 (nI_nle z1 (by omega))
            · omega
          have hq0 : q = 0 := by
            have := m0 y
            omega
          rw [hq0]
          exact nI_0
      have hOc : upd a8 h D c = a8 c := by
        by_cases z : c = h
        · rw [← z, pk_us, h8c]
          exact (d1 z.symm).symm
        · exact pk_un z
      refine qz_336m (O := upd a8 h D) hh h1 pk_us (fun p' r => qz_settle2 h3 h4 h1 x0' x1' hle hw hO r) (fun b9 b10 b11 b12 hb p' r => qz_worth1 (x := nI m) h3 h4 hc (fun z => ?_) (fun z => ?_) hle (by rw [hw]; exact r)) hp
      · rw [hb c hc, hOc]
        exact x0' z
      · rw [hb c hc, hOc]
        exact x1' z
    have Q : wL_lawOf_302 post mc ms (nI c) (nI h) 1 1 1 (nI v) (nI q) kc ks ds 1 (-1) 0 a1 a2 a3 a4 a5 a6 a7 a8 a9 a10 a11 a12 a13 := by
      refine br_f (by decide) (pk_eq h c (fun z => ?_) (fun z => ?_))
      · have y : x1 = 0 := by
          by_cases y : x1 = 0
          · exact y
          · have t := hn y
            rw [z] at t
            omega
        have := m0 y
        exact br_t (nI_le (by omega) (by omega)) (K (nI v) (fun _ => rfl) (fun z' => absurd z z'))
      · unfold wL_lawOf_319
        refine pk_le q 0 (fun y => ?_) (fun y => ?_)
        · exact K 0 (fun z' => absurd z' z) (fun _ => by rw [show q = 0 by omega]; rfl)
        · exact K (nI q) (fun z' => absurd z' z) (fun _ => rfl)
    unfold wL_lawOf_284
    rw [e]
    exact br_f (by decide) ⟨by decide, Q⟩
  refine br_f (by decide) (br_c (fun y => main v hv (fun _ => rfl) (fun z => absurd y z)) (fun y => ?_))
  rw [e100]
  exact main (100 - v) (by omega) (fun z => absurd z y) (fun _ => rfl)
end
end
section
/-- an int and the law's word on it: is it a claim -/
def qz_C (x f : Int32) : Prop := f = 0 ∧ (x < 0 ∨ 15 < x) ∨ f = 1 ∧ ∃ j, j < 16 ∧ x = nI j
/-- is it a strength -/
def qz_G (x f : Int32) : Prop := f = 0 ∧ (x < 1 ∨ 100 < x) ∨ f = 1 ∧ ∃ j, 1 ≤ j ∧ j ≤ 100 ∧ x = nI j
/-- is it a certainty -/
def qz_W (x f : Int32) : Prop := f = 0 ∧ (x < 0 ∨ 100 < x) ∨ f = 1 ∧ ∃ j, j ≤ 100 ∧ x = nI j
theorem qz_up {x : Int32} {n : Nat} (h0 : ¬ x < 0) (h : ¬ nI n < x) (hn : n < 2 ^ 31) : ∃ j, j ≤ n ∧ x = nI j := by
  obtain ⟨j, hj, e⟩ := nI_of h0
  refine ⟨j, ?_, e⟩
  rcases Nat.lt_or_ge n j with z | z
  · rw [e] at h
    exact absurd (nI_lt z hj) h
  · exact z
theorem qz_nle {x : Int32} (h : 100 < x) : ¬ x ≤ 100 := Int32.not_le.mpr h
theorem qz_l1 : ∀ a, a < 4 → ∀ b, b < 4 → (nI a ≤ nI b - 1 ↔ a < b) := by decide +kernel
theorem qz_sh {n : Nat} (h : n < 16) : nI n >>> ((2 : Int32) &&& 31) = nI (n / 4) := pk_shrN (show n < 2 ^ 31 by omega) _ 2 (by decide)
section
variable {ds cnt sk cur : Int32} {a1 a2 a3 a4 a5 a6 a7 a8 a9 a10 a11 a12 a13 : Nat → Int32}
theorem qz_obsN {p : Int32 → St2 → Prop} {x y : Int32} (hx : x < 0 ∨ 15 < x) (hp : p (-1) (ds, cnt, sk, cur, a1, a2, a3, a4, a5, a6, a7, a8, a9, a10, a11, a12, a13)) : wpX_observe p (ds, cnt, sk, cur, a1, a2, a3, a4, a5, a6, a7, a8, a9, a10, a11, a12, a13) x y := by
  unfold wpX_observe
  exact qz_icF hx (br_t rfl hp)
theorem qz_obsB {p : Int32 → St2 → Prop} {c : Nat} {y : Int32} (hc : c < 16) (hy : y < 0 ∨ 100 < y) (hp : p (-2) (ds, cnt, sk, cur, a1, a2, a3, a4, a5, a6, a7, a8, a9, a10, a11, a12, a13)) : wpX_observe p (ds, cnt, sk, cur, a1, a2, a3, a4, a5, a6, a7, a8, a9, a10, a11, a12, a13) (nI c) y := by
  unfold wpX_observe
  refine qz_icT hc (br_f (by decide) ?_)
  rcases hy with g | g
  · exact br_t g hp
  · exact br_c (fun _ => hp) (fun _ => br_f (qz_nle g) hp)
theorem qz_obsG {p : Int32 → St2 → Prop} {c v : Nat} (hc : c < 16) (hv : v ≤ 100) (hp : p (a8 c) (ds, cnt, sk, 0, a1, a2, a3, a4, a5, a6, a7, upd a8 c (nI v), a9, a10, a11, a12, a13)) : wpX_observe p (ds, cnt, sk, cur, a1, a2, a3, a4, a5, a6, a7, a8, a9, a10, a11, a12, a13) (nI c) (nI v) := by
  unfold wpX_observe
  have ci : (nI c).toNatClampNeg = c := nI_clamp (by omega)
  exact qz_icT hc (br_f (by decide) (br_f (nI_pos (by omega)) (br_t (nI_le (b := 100) hv (by omega)) ⟨pk_in c 16 hc, nm_r (e' := a8 c) (by rw [ci]) ⟨pk_in c 16 hc, nm_r (e' := upd a8 c (nI v)) (by rw [ci]) hp⟩⟩)))
theorem qz_premN {p : Int32 → St2 → Prop} {x y : Int32} (hx : x < 0 ∨ 15 < x) (hp : p (-1) (ds, cnt, sk, cur, a1, a2, a3, a4, a5, a6, a7, a8, a9, a10, a11, a12, a13)) : wpX_premise p (ds, cnt, sk, cur, a1, a2, a3, a4, a5, a6, a7, a8, a9, a10, a11, a12, a13) x y := by
  unfold wpX_premise
  exact qz_icF hx (br_t rfl hp)
theorem qz_premG {p : Int32 → St2 → Prop} {c : Nat} {y : Int32} (hc : c < 16) (hp : ∀ b, (y = 0 → b = 0) → (¬ y = 0 → b = 1) → p 1 (1, cnt, sk, cur, a1, a2, a3, a4, a5, upd a6 0 (nI c), upd a7 0 b, a8, a9, a10, a11, a12, a13)) : wpX_premise p (0, cnt, sk, cur, a1, a2, a3, a4, a5, a6, a7, a8, a9, a10, a11, a12, a13) (nI c) y := by
  have e0 : vp_nar .boolean 0 = 0 := by decide
  have e1 : vp_nar .boolean 1 = 1 := by decide
  unfold wpX_premise
  refine qz_icT hc (br_f (by decide) (br_f (by decide) ⟨pk_in 0 3 (by decide), nm_r (e' := upd a6 0 (nI c)) rfl ?_⟩))
  refine br_c (fun g => ?_) (fun g => ?_)
  · unfold wX_premise_47
    exact ⟨pk_in 0 3 (by decide), nm_r (e' := upd a7 0 0) (by rw [e0]; rfl) (nm_r (show (0 : Int32) + 1 = 1 by decide) (hp 0 (fun _ => rfl) (fun z => absurd g z)))⟩
  · unfold wX_premise_47
    exact ⟨pk_in 0 3 (by decide), nm_r (e' := upd a7 0 1) (by rw [e1]; rfl) (nm_r (show (0 : Int32) + 1 = 1 by decide) (hp 1 (fun z => absurd z g) (fun _ => rfl)))⟩
theorem qz_ruleN {p : Int32 → St2 → Prop} {x y : Int32} (hx : x < 0 ∨ 15 < x) (hp : p (-1) (ds, cnt, sk, cur, a1, a2, a3, a4, a5, a6, a7, a8, a9, a10, a11, a12, a13)) : wpX_rule p (ds, cnt, sk, cur, a1, a2, a3, a4, a5, a6, a7, a8, a9, a10, a11, a12, a13) x y := by
  unfold wpX_rule
  exact qz_icF hx (br_t rfl hp)
theorem qz_ruleB {p : Int32 → St2 → Prop} {h : Nat} {y : Int32} (hh : h < 16) (hy : y < 1 ∨ 100 < y) (hp : p (-2) (ds, cnt, sk, cur, a1, a2, a3, a4, a5, a6, a7, a8, a9, a10, a11, a12, a13)) : wpX_rule p (ds, cnt, sk, cur, a1, a2, a3, a4, a5, a6, a7, a8, a9, a10, a11, a12, a13) (nI h) y := by
  unfold wpX_rule
  refine qz_icT hh (br_f (by decide) ?_)
  rcases hy with g | g
  · exact br_t g hp
  · exact br_c (fun _ => hp) (fun _ => br_f (qz_nle g) hp)
theorem qz_ruleI {p : Int32 → St2 → Prop} {h s : Nat} (hh : h < 16) (hs0 : 1 ≤ s) (hs : s ≤ 100) (H : ∃ n, wX_rule_25 p (nI h) (nI s) ds cnt sk cur a1 a2 a3 a4 a5 a6 a7 a8 a9 a10 a11 a12 a13 n 0) : wpX_rule p (ds, cnt, sk, cur, a1, a2, a3, a4, a5, a6, a7, a8, a9, a10, a11, a12, a13) (nI h) (nI s) := by
  unfold wpX_rule
  exact qz_icT hh (br_f (by decide) (br_f (nI_nlt (b := 1) hs0 (by omega)) (br_t (nI_le (b := 100) hs (by omega)) H)))
theorem qz_rule0 {p : Int32 → St2 → Prop} {h s : Nat} (hh : h < 16) (hs0 : 1 ≤ s) (hs : s ≤ 100) (hp : p 0 (0, 1, sk, 0, upd a1 0 (nI h), upd a2 0 (nI s), upd a3 0 0, a4, a5, a6, a7, a8, a9, a10, a11, a12, a13)) : wpX_rule p (0, 0, sk, cur, a1, a2, a3, a4, a5, a6, a7, a8, a9, a10, a11, a12, a13) (nI h) (nI s) := by
  have e : (1 : Int32) - 1 = 0 := by decide
  have hp' : p (1 - 1) (0, 1, sk, 0, upd a1 0 (nI h), upd a2 0 (nI s), upd a3 0 0, a4, a5, a6, a7, a8, a9, a10, a11, a12, a13) := by
    rw [e]
    exact hp
  exact qz_ruleI hh hs0 hs (Exists.intro 1 (br_t (by decide) (br_f (by decide) ⟨pk_in 0 20 (by decide), nm_r (e' := upd a1 0 (nI h)) rfl ⟨pk_in 0 20 (by decide), nm_r (e' := upd a2 0 (nI s)) rfl ⟨pk_in 0 20 (by decide), nm_r (e' := upd a3 0 0) rfl (Exists.intro 1 (br_t (by decide) (nm_r (show (0 : Int32) + 1 = 1 by decide) hp')))⟩⟩⟩)))
theorem qz_rule1 {p : Int32 → St2 → Prop} {c h s : Nat} (hc : c < 16) (hh : h < 16) (hs0 : 1 ≤ s) (hs : s ≤ 100) (h6 : a6 0 = nI c) (f0 : a7 0 = 0 → c / 4 ≤ h / 4) (f1 : ¬ a7 0 = 0 → c / 4 < h / 4)
    (hp : p 0 (0, 1, sk, 0, upd a1 0 (nI h), upd a2 0 (nI s), upd a3 0 1, upd a4 0 (nI c), upd a5 0 (vp_nar .boolean (a7 0)), a6, a7, a8, a9, a10, a11, a12, a13)) : wpX_rule p (1, 0, sk, cur, a1, a2, a3, a4, a5, a6, a7, a8, a9, a10, a11, a12, a13) (nI h) (nI s) := by
  have e : (1 : Int32) - 1 = 0 := by decide
  have hp' : p (1 - 1) (0, 1, sk, 0, upd a1 0 (nI h), upd a2 0 (nI s), upd a3 0 1, upd a4 0 (nI c), upd a5 0 (vp_nar .boolean (a7 0)), a6, a7, a8, a9, a10, a11, a12, a13) := by
    rw [e]
    exact hp
  have T : ∃ n, wX_rule_124 p 1 0 sk cur n 0 (upd a1 0 (nI h)) (upd a2 0 (nI s)) (upd a3 0 1) a4 a5 a6 a7 a8 a9 a10 a11 a12 a13 :=
    Exists.intro 2 (br_f (by decide) ⟨pk_in 0 3 (by decide), pk_in 0 60 (by decide), nm_r (e' := upd a4 0 (nI c)) (by rw [← h6]; rfl) ⟨pk_in 0 3 (by decide), pk_in 0 60 (by decide), nm_r (e' := upd a5 0 (vp_nar .boolean (a7 0))) rfl (nm_r (show (0 : Int32) + 1 = 1 by decide) (br_t (by decide) (nm_r (show (0 : Int32) + 1 = 1 by decide) hp')))⟩⟩)
  have K : ∀ n, wX_rule_25 p (nI h) (nI s) 1 0 sk cur a1 a2 a3 a4 a5 a6 a7 a8 a9 a10 a11 a12 a13 (n + 1) 1 := fun n =>
    br_t (by decide) (br_f (by decide) ⟨pk_in 0 20 (by decide), nm_r (e' := upd a1 0 (nI h)) rfl ⟨pk_in 0 20 (by decide), nm_r (e' := upd a2 0 (nI s)) rfl ⟨pk_in 0 20 (by decide), nm_r (e' := upd a3 0 1) rfl T⟩⟩⟩)
  have e6 : a6 (0 : Int32).toNatClampNeg >>> ((2 : Int32) &&& 31) = nI (c / 4) := by
    show a6 0 >>> ((2 : Int32) &&& 31) = nI (c / 4)
    rw [h6]
    exact qz_sh hc
  have M : ∀ z, nI (c / 4) ≤ z → wX_rule_53 p (wX_rule_25 p (nI h) (nI s) 1 0 sk cur a1 a2 a3 a4 a5 a6 a7 a8 a9 a10 a11 a12 a13 1) (nI h) (nI s) 0 z 1 0 sk cur a1 a2 a3 a4 a5 a6 a7 a8 a9 a10 a11 a12 a13 := by
    intro z hz
    unfold wX_rule_53
    rw [e6]
    exact ⟨pk_in 0 3 (by decide), br_t hz (nm_r (show (0 : Int32) + 1 = 1 by decide) (K 0))⟩
  refine qz_ruleI hh hs0 hs (Exists.intro 2 (br_f (by decide) ⟨pk_in 0 3 (by decide), br_c (fun g => M _ ?_) (fun g => M _ ?_)⟩))
  · rw [qz_sh hh]
    exact nI_le (f0 g) (by omega)
  · rw [qz_sh hh]
    exact (qz_l1 _ (by omega) _ (by omega)).mpr (f1 g)
theorem qz_rule1F {p : Int32 → St2 → Prop} {c h s : Nat} (hc : c < 16) (hh : h < 16) (hs0 : 1 ≤ s) (hs : s ≤ 100) (h6 : a6 0 = nI c) (f0 : a7 0 = 0 → h / 4 < c / 4) (f1 : ¬ a7 0 = 0 → h / 4 ≤ c / 4)
    (hp : p (-3) (1, 0, sk, cur, a1, a2, a3, a4, a5, a6, a7, a8, a9, a10, a11, a12, a13)) : wpX_rule p (1, 0, sk, cur, a1, a2, a3, a4, a5, a6, a7, a8, a9, a10, a11, a12, a13) (nI h) (nI s) := by
  have e6 : a6 (0 : Int32).toNatClampNeg >>> ((2 : Int32) &&& 31) = nI (c / 4) := by
    show a6 0 >>> ((2 : Int32) &&& 31) = nI (c / 4)
    rw [h6]
    exact qz_sh hc
  have M : ∀ z, ¬ nI (c / 4) ≤ z → wX_rule_53 p (wX_rule_25 p (nI h) (nI s) 1 0 sk cur a1 a2 a3 a4 a5 a6 a7 a8 a9 a10 a11 a12 a13 1) (nI h) (nI s) 0 z 1 0 sk cur a1 a2 a3 a4 a5 a6 a7 a8 a9 a10 a11 a12 a13 := by
    intro z hz
    unfold wX_rule_53
    rw [e6]
    exact ⟨pk_in 0 3 (by decide), br_f hz hp⟩
  refine qz_ruleI hh hs0 hs (Exists.intro 2 (br_f (by decide) ⟨pk_in 0 3 (by decide), br_c (fun g => M _ ?_) (fun g => M _ ?_)⟩))
  · rw [qz_sh hh]
    exact nI_ge (f0 g) (by omega)
  · rw [qz_sh hh]
    intro z
    have t := (qz_l1 _ (by omega) _ (by omega)).mp z
    have t2 := f1 g
    omega
end
section
variable {post : Int32 → St0 → Prop} {mc ms kc ks : Nat} {ds cnt sk cur : Int32} {a1 a2 a3 a4 a5 a6 a7 a8 a9 a10 a11 a12 a13 : Nat → Int32}
theorem qz_204N {x0 x1 x2 x3 x4 x7 x9 x13 z : Int32} (hx : x0 < 0 ∨ 15 < x0) (H : wL_lawOf_258 post mc ms x0 x1 x2 x3 0 x7 x13 0 kc ks ds cnt sk cur a1 a2 a3 a4 a5 a6 a7 a8 a9 a10 a11 a12 a13) : wL_lawOf_204 post mc ms x0 x1 x2 x3 x4 0 x7 x9 x13 z z kc ks ds cnt sk cur a1 a2 a3 a4 a5 a6 a7 a8 a9 a10 a11 a12 a13 := by
  have A : wL_lawOf_237 post mc ms x0 x1 x2 x3 x4 0 x7 x9 x13 (-1) (-1) kc ks ds cnt sk cur a1 a2 a3 a4 a5 a6 a7 a8 a9 a10 a11 a12 a13 := by
    unfold wL_lawOf_237 wL_lawOf_257
    exact br_t rfl (br_t rfl H)
  unfold wL_lawOf_204
  exact br_t rfl (qz_obsN hx (br_t rfl A))
theorem qz_204G {x1 x2 x3 x4 x7 x9 x13 z : Int32} {c : Nat} (hc : c < 16) (hv : qz_W x4 x9) (h8 : ∀ i, i < 16 → a8 i = 0) (H : ∀ v b8, v ≤ 100 → b8 c = nI v → (∀ i, i < 16 → i ≠ c → b8 i = 0) → wL_lawOf_258 post mc ms (nI c) x1 x2 x3 1 x7 x13 (nI v) kc ks ds cnt sk 0 a1 a2 a3 a4 a5 a6 a7 b8 a9 a10 a11 a12 a13) : wL_lawOf_204 post mc ms (nI c) x1 x2 x3 x4 1 x7 x9 x13 z z kc ks ds cnt sk 0 a1 a2 a3 a4 a5 a6 a7 a8 a9 a10 a11 a12 a13 := by
  rcases hv with ⟨e, g⟩ | ⟨e, v, hv, ev⟩
  · subst e
    have B : wL_lawOf_258 post mc ms (nI c) x1 x2 x3 1 x7 x13 0 kc ks ds cnt sk 0 a1 a2 a3 a4 a5 a6 a7 a8 a9 a10 a11 a12 a13 := H 0 a8 (by omega) (h8 c hc) (fun i hi _ => h8 i hi)
    have A : wL_lawOf_237 post mc ms (nI c) x1 x2 x3 x4 1 x7 0 x13 (-2) (-2) kc ks ds cnt sk 0 a1 a2 a3 a4 a5 a6 a7 a8 a9 a10 a11 a12 a13 := by
      unfold wL_lawOf_237 wL_lawOf_257
      exact br_t rfl (br_f (by decide) (br_t rfl B))
    unfold wL_lawOf_204
    exact br_t rfl (qz_obsB hc g (br_f (by decide) (br_t rfl A)))
  · subst e ev
    have B : wL_lawOf_258 post mc ms (nI c) x1 x2 x3 1 x7 x13 (nI v) kc ks ds cnt sk 0 a1 a2 a3 a4 a5 a6 a7 (upd a8 c (nI v)) a9 a10 a11 a12 a13 := H v _ hv pk_us (fun i hi g => (pk_un g).trans (h8 i hi))
    have A : wL_lawOf_237 post mc ms (nI c) x1 x2 x3 (nI v) 1 x7 1 x13 0 (a8 c) kc ks ds cnt sk 0 a1 a2 a3 a4 a5 a6 a7 (upd a8 c (nI v)) a9 a10 a11 a12 a13 := by
      unfold wL_lawOf_237
      exact br_t (h8 c hc) (br_f (by decide) (br_f (by decide) B))
    unfold wL_lawOf_204
    exact br_t rfl (qz_obsG hc hv (br_f (by decide) (br_f (by decide) A)))
/-- the claim is none: the draft is empty -/
theorem qz_138N {x0 x1 x2 x3 x4 x7 x8 x9 : Int32} (hx : x0 < 0 ∨ 15 < x0) (hh : qz_C x2 x7) (hg : qz_G x3 x8) (h12 : a12 0 = 0) (h8 : ∀ i, i < 16 → a8 i = 0) (hp : post 1 ()) : wL_lawOf_138 post mc ms x0 x1 x2 x3 x4 0 x7 x8 x9 kc ks 0 0 (-1) 0 a1 a2 a3 a4 a5 a6 a7 a8 a9 a10 a11 a12 a13 := by
  unfold wL_lawOf_138 wL_lawOf_143 wL_lawOf_164
  rcases hh with ⟨e, g⟩ | ⟨e, h, hh, eh⟩
  · subst e
    refine br_t rfl ?_
    unfold wL_lawOf_165
    exact qz_ruleN g (br_t rfl (qz_204N hx (qz_258n g hp)))
  · subst e eh
    refine br_f (by decide) ?_
    rcases hg with ⟨e, g⟩ | ⟨e, s, hs0, hs, es⟩
    · subst e
      refine br_t rfl ?_
      unfold wL_lawOf_165
      exact qz_ruleB hh g (br_f (by decide) (br_t rfl (qz_204N hx (qz_258v hh h12 (h8 h hh) hp))))
    · subst e es
      refine br_f (by decide) (br_f (by decide) ?_)
      unfold wL_lawOf_165
      exact qz_rule0 hh hs0 hs (br_f (by decide) (br_f (by decide) (br_f (by decide) (qz_204N hx (qz_258r hh hs0 hs pk_us pk_us pk_us (h8 h hh) hp)))))
/-- the head is none -/
theorem qz_143N {x1 x2 x3 x4 x8 x9 z0 : Int32} {c : Nat} (hc : c < 16) (g : x2 < 0 ∨ 15 < x2) (hv : qz_W x4 x9) (h8 : ∀ i, i < 16 → a8 i = 0) (hp : post 1 ()) : wL_lawOf_143 post mc ms (nI c) x1 x2 x3 x4 1 0 x8 x9 z0 kc ks 1 0 (-1) 0 a1 a2 a3 a4 a5 a6 a7 a8 a9 a10 a11 a12 a13 := by
  unfold wL_lawOf_143 wL_lawOf_164
  refine br_t rfl ?_
  unfold wL_lawOf_165
  exact qz_ruleN g (br_t rfl (qz_204G hc hv h8 (fun v b8 _ _ _ => qz_258n g hp)))
/-- the rule has a premise -/
theorem qz_143G {x1 x3 x4 x8 x9 : Int32} {c h : Nat} (hc : c < 16) (hh : h < 16) (hg : qz_G x3 x8) (hv : qz_W x4 x9) (h6 : a6 0 = nI c) (h7 : x1 = 0 → a7 0 = 0) (h7' : ¬ x1 = 0 → a7 0 = 1) (h12 : a12 0 = 0) (h8 : ∀ i, i < 16 → a8 i = 0) (hp : post 1 ())
    (fits : Prop) (f0 : x1 = 0 → (fits ↔ c / 4 ≤ h / 4)) (f1 : ¬ x1 = 0 → (fits ↔ c / 4 < h / 4)) :
    (fits → wL_lawOf_143 post mc ms (nI c) x1 (nI h) x3 x4 1 1 x8 x9 1 kc ks 1 0 (-1) 0 a1 a2 a3 a4 a5 a6 a7 a8 a9 a10 a11 a12 a13) ∧ (¬ fits → wL_lawOf_143 post mc ms (nI c) x1 (nI h) x3 x4 1 1 x8 x9 0 kc ks 1 0 (-1) 0 a1 a2 a3 a4 a5 a6 a7 a8 a9 a10 a11 a12 a13) := by
  have e0 : vp_nar .boolean 0 = 0 := by decide
  have e1 : vp_nar .boolean 1 = 1 := by decide
  have n10 : ¬ (1 : Int32) = 0 := by decide
  have a70 : a7 0 = 0 ↔ x1 = 0 := by
    constructor
    · intro z
      by_cases y : x1 = 0
      · exact y
      · rw [h7' y] at z
        exact absurd z n10
    · exact h7
  have a5n : vp_nar .boolean (a7 0) = 0 ↔ x1 = 0 := by
    by_cases y : x1 = 0
    · rw [h7 y, e0]
      exact ⟨fun _ => y, fun _ => rfl⟩
    · rw [h7' y, e1]
      exact ⟨fun z => absurd z n10, fun z => absurd z y⟩
  rcases hg with ⟨e, g⟩ | ⟨e, s, hs0, hs, es⟩
  · subst e
    have B : ∀ z : Int32, wL_lawOf_143 post mc ms (nI c) x1 (nI h) x3 x4 1 1 0 x9 z kc ks 1 0 (-1) 0 a1 a2 a3 a4 a5 a6 a7 a8 a9 a10 a11 a12 a13 := by
      intro z
      unfold wL_lawOf_143 wL_lawOf_164
      refine br_f n10 (br_t rfl ?_)
      unfold wL_lawOf_165
      exact qz_ruleB hh g (br_f n10 (br_t rfl (qz_204G hc hv h8 (fun v b8 hv1 b1 b2 => qz_258u hc hh hv1 h12 b1 b2 hp))))
    exact ⟨fun _ => B 1, fun _ => B 0⟩
  · subst e es
    refine ⟨fun f => ?_, fun f => ?_⟩
    · have l : c / 4 ≤ h / 4 := by
        by_cases y : x1 = 0
        · exact (f0 y).mp f
        · have := (f1 y).mp f
          omega
      unfold wL_lawOf_143
      refine br_f n10 (br_f n10 (br_f n10 ?_))
      unfold wL_lawOf_165
      refine qz_rule1 hc hh hs0 hs h6 (fun _ => l) (fun z => (f1 (fun y => z (h7 y))).mp f) (br_f n10 (br_f n10 (br_f n10 (qz_204G hc hv h8 (fun v b8 hv1 b1 b2 => qz_258m hc hh hv1 hs0 hs l (fun y => (f1 y).mp f) pk_us pk_us pk_us pk_us ?_ b1 b2 hp)))))
      rw [pk_us]
      exact a5n
    · unfold wL_lawOf_143 wL_lawOf_164
      refine br_f n10 (br_f n10 (br_t rfl ?_))
      unfold wL_lawOf_165
      refine qz_rule1F hc hh hs0 hs h6 (fun z => ?_) (fun z => ?_) (br_f n10 (br_f n10 (br_t rfl (qz_204G hc hv h8 (fun v b8 hv1 b1 b2 => qz_258u hc hh hv1 h12 b1 b2 hp)))))
      · have k := f0 (a70.mp z)
        have f' : ¬ c / 4 ≤ h / 4 := fun y => f (k.mpr y)
        omega
      · have k := f1 (fun y => z (h7 y))
        have f' : ¬ c / 4 < h / 4 := fun y => f (k.mpr y)
        omega
theorem qz_97N {x0 x1 x2 x3 x4 x7 x8 x9 : Int32} (hx : x0 < 0 ∨ 15 < x0) (hh : qz_C x2 x7) (hg : qz_G x3 x8) (h12 : a12 0 = 0) (h8 : ∀ i, i < 16 → a8 i = 0) (hp : post 1 ()) : wL_lawOf_97 post mc ms x0 x1 x2 x3 x4 0 x7 x8 x9 (-1) (-1) kc ks 0 0 (-1) 0 a1 a2 a3 a4 a5 a6 a7 a8 a9 a10 a11 a12 a13 := by
  unfold wL_lawOf_97
  exact br_t rfl (nm_e (nm_e (br_t rfl (qz_138N hx hh hg h12 h8 hp))))
theorem qz_97G {x1 x2 x3 x4 x7 x8 x9 : Int32} {c : Nat} (hc : c < 16) (hh : qz_C x2 x7) (hg : qz_G x3 x8) (hv : qz_W x4 x9) (h6 : a6 0 = nI c) (h7 : x1 = 0 → a7 0 = 0) (h7' : ¬ x1 = 0 → a7 0 = 1) (h12 : a12 0 = 0) (h8 : ∀ i, i < 16 → a8 i = 0) (hp : post 1 ()) :
    wL_lawOf_97 post mc ms (nI c) x1 x2 x3 x4 1 x7 x8 x9 1 1 kc ks 1 0 (-1) 0 a1 a2 a3 a4 a5 a6 a7 a8 a9 a10 a11 a12 a13 := by
  have n10 : ¬ (1 : Int32) = 0 := by decide
  unfold wL_lawOf_97 wL_lawOf_138 wL_lawOf_142
  rcases hh with ⟨e, g⟩ | ⟨e, h, hh, eh⟩
  · subst e
    have B : ∀ z : Int32, wL_lawOf_143 post mc ms (nI c) x1 x2 x3 x4 1 0 x8 x9 z kc ks 1 0 (-1) 0 a1 a2 a3 a4 a5 a6 a7 a8 a9 a10 a11 a12 a13 := fun z => qz_143N hc g hv h8 hp
    exact br_t rfl (nm_e (nm_e (br_f n10 (br_c (fun _ => br_c (fun _ => B 0) (fun _ => B 1)) (fun _ => br_c (fun _ => B 0) (fun _ => B 1))))))
  · subst e eh
    refine br_t rfl (nm_r (qz_sh hc) (nm_r (qz_sh hh) (br_f n10 (br_c (fun y => ?_) (fun y => ?_)))))
    · have B := qz_143G (post := post) (mc := mc) (ms := ms) (kc := kc) (ks := ks) (x1 := x1) (a1 := a1) (a2 := a2) (a3 := a3) (a4 := a4) (a5 := a5) (a9 := a9) (a10 := a10) (a11 := a11) (a13 := a13) hc hh hg hv h6 h7 h7' h12 h8 hp (c / 4 ≤ h / 4) (fun _ => Iff.rfl) (fun z => absurd y z)
      exact pk_lt (h / 4) (c / 4) (fun z => B.2 (by omega)) (fun z => B.1 z)
    · have B := qz_143G (post := post) (mc := mc) (ms := ms) (kc := kc) (ks := ks) (x1 := x1) (a1 := a1) (a2 := a2) (a3 := a3) (a4 := a4) (a5 := a5) (a9 := a9) (a10 := a10) (a11 := a11) (a13 := a13) hc hh hg hv h6 h7 h7' h12 h8 hp (c / 4 < h / 4) (fun z => absurd z y) (fun _ => Iff.rfl)
      exact pk_le (h / 4) (c / 4) (fun z => B.2 (by omega)) (fun z => B.1 z)
end
end
section
section
variable {post : Int32 → St0 → Prop} {mc ms kc ks : Nat}
theorem qz_78 {x0 x1 x2 x3 x4 x6 x7 x8 x9 : Int32} (hc : qz_C x0 x6) (hh : qz_C x2 x7) (hg : qz_G x3 x8) (hv : qz_W x4 x9) (hp : post 1 ()) : wL_lawOf_78 post mc ms x0 x1 x2 x3 x4 x6 x7 x8 x9 kc ks 0 0 (-1) 0 (fun _ => 0) (fun _ => 0) (fun _ => 0) (fun _ => 0) (fun _ => 0) (fun _ => 0) (fun _ => 0) (fun _ => 0) (fun _ => 0) (fun _ => 0) (fun _ => 0) (fun _ => 0) (fun _ => 0) := by
  unfold wL_lawOf_78
  rcases hc with ⟨e, g⟩ | ⟨e, c, hc, ec⟩
  · subst e
    exact qz_premN g (br_t rfl (qz_97N g hh hg rfl (fun _ _ => rfl) hp))
  · subst e ec
    exact qz_premG hc (fun b b0 b1 => br_f (by decide) (qz_97G hc hh hg hv pk_us (fun y => (pk_us).trans (b0 y)) (fun y => (pk_us).trans (b1 y)) rfl (fun _ _ => rfl) hp))
theorem qz_59 {x0 x1 x2 x3 x4 x6 x7 x8 : Int32} (hc : qz_C x0 x6) (hh : qz_C x2 x7) (hg : qz_G x3 x8) (hp : post 1 ()) : wL_lawOf_59 post mc ms x0 x1 x2 x3 x4 x6 x7 x8 kc ks 0 0 (-1) 0 (fun _ => 0) (fun _ => 0) (fun _ => 0) (fun _ => 0) (fun _ => 0) (fun _ => 0) (fun _ => 0) (fun _ => 0) (fun _ => 0) (fun _ => 0) (fun _ => 0) (fun _ => 0) (fun _ => 0) := by
  unfold wL_lawOf_59 wL_lawOf_77
  exact br_c (fun g => qz_78 hc hh hg (Or.inl ⟨rfl, Or.inl g⟩) hp) (fun g => br_c (fun g2 => qz_78 hc hh hg (Or.inl ⟨rfl, Or.inr g2⟩) hp) (fun g2 => qz_78 hc hh hg (Or.inr ⟨rfl, qz_up (n := 100) g g2 (by omega)⟩) hp))
theorem qz_41 {x0 x1 x2 x3 x4 x6 x7 : Int32} (hc : qz_C x0 x6) (hh : qz_C x2 x7) (hp : post 1 ()) : wL_lawOf_41 post mc ms x0 x1 x2 x3 x4 x6 x7 kc ks 0 0 (-1) 0 (fun _ => 0) (fun _ => 0) (fun _ => 0) (fun _ => 0) (fun _ => 0) (fun _ => 0) (fun _ => 0) (fun _ => 0) (fun _ => 0) (fun _ => 0) (fun _ => 0) (fun _ => 0) (fun _ => 0) := by
  unfold wL_lawOf_41 wL_lawOf_58
  refine br_c (fun g => qz_59 hc hh (Or.inl ⟨rfl, Or.inl g⟩) hp) (fun g => br_c (fun g2 => qz_59 hc hh (Or.inl ⟨rfl, Or.inr g2⟩) hp) (fun g2 => qz_59 hc hh (Or.inr ⟨rfl, ?_⟩) hp))
  have g0 : ¬ x3 < 0 := fun z => g (Int32.lt_trans z (by decide))
  obtain ⟨j, hj, e⟩ := qz_up (n := 100) g0 g2 (by omega)
  refine ⟨j, ?_, hj, e⟩
  rcases Nat.lt_or_ge j 1 with z | z
  · rw [e] at g
    exact absurd (nI_lt (b := 1) z (by omega)) g
  · exact z
theorem qz_24 {x0 x1 x2 x3 x4 x6 : Int32} (hc : qz_C x0 x6) (hp : post 1 ()) : wL_lawOf_24 post mc ms x0 x1 x2 x3 x4 x6 kc ks 0 0 (-1) 0 (fun _ => 0) (fun _ => 0) (fun _ => 0) (fun _ => 0) (fun _ => 0) (fun _ => 0) (fun _ => 0) (fun _ => 0) (fun _ => 0) (fun _ => 0) (fun _ => 0) (fun _ => 0) (fun _ => 0) := by
  unfold wL_lawOf_24 wL_lawOf_40
  refine br_c (fun g => qz_41 hc (Or.inl ⟨rfl, Or.inl g⟩) hp) (fun g => br_c (fun g2 => qz_41 hc (Or.inl ⟨rfl, Or.inr g2⟩) hp) (fun g2 => qz_41 hc (Or.inr ⟨rfl, ?_⟩) hp))
  obtain ⟨j, hj, e⟩ := qz_up (n := 15) g g2 (by omega)
  exact ⟨j, by omega, e⟩
theorem qz_lawOf {p0 p1 p2 p3 p4 : Int32} (hp : post 1 ()) : wpL_lawOf post 152 2416 () p0 p1 p2 p3 p4 := by
  unfold wpL_lawOf
  refine ⟨by omega, by omega, 100, 2000, by omega, by omega, ?_⟩
  unfold wpX_init
  refine ⟨by omega, by omega, by omega, by omega, by omega, by omega, by omega, by omega, by omega, by omega, by omega, by omega, by omega, by omega, by omega, by omega, by omega, by omega, by omega, by omega, by omega, by omega, by omega, by omega, by omega, by omega, ?_⟩
  unfold wL_lawOf_23
  refine br_c (fun g => qz_24 (Or.inl ⟨rfl, Or.inl g⟩) hp) (fun g => br_c (fun g2 => qz_24 (Or.inl ⟨rfl, Or.inr g2⟩) hp) (fun g2 => qz_24 (Or.inr ⟨rfl, ?_⟩) hp))
  obtain ⟨j, hj, e⟩ := qz_up (n := 15) g g2 (by omega)
  exact ⟨j, by omega, e⟩
end
theorem qz_cell {post : Int32 → Prop} {L : Nat} {xs : Nat → Int32} (k : Nat) (hL : L ≤ 5) (hk : k < 5) (H : ∀ r, post r) : wpL_cellAt post L xs () (nI k) :=
  pk_le L k (fun _ => H _) (fun z => ⟨pk_in k L z, H _⟩)
theorem i_vc (xs : Nat → Int32) (L : Nat) (hL : L ≤ 5) : wpL_law (fun r => r = 1) L xs := by
  unfold wpL_law
  exact qz_cell 0 hL (by omega) (fun r1 => qz_cell 1 hL (by omega) (fun r2 => qz_cell 2 hL (by omega) (fun r3 => qz_cell 3 hL (by omega) (fun r4 => qz_cell 4 hL (by omega) (fun r5 => ⟨152, 2416, by omega, by omega, qz_lawOf rfl⟩)))))
end
