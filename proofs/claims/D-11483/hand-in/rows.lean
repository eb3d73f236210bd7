section
/-- the picture: M k j is byte j of page k; the pages in frames are x or y alone -/
def zs_I (x y : Nat) (M : Nat → Nat → Int32) (a1 a2 a3 a4 : Nat → Int32) : Prop :=
  (∀ k, k < 12 → (a1 k = 0 ∧ ∀ j, j < 16 → M k j = 0) ∨ (a1 k = 1 ∧ (k = x ∨ k = y) ∧ ∃ f, f < 3 ∧ a2 k = nI f ∧ a4 f = nI k ∧ ∀ j, j < 16 → a3 (f * 16 + j) = M k j)) ∧
  (∀ f, f < 3 → a4 f = -1 ∨ ∃ k, k < 12 ∧ a4 f = nI k ∧ a1 k = 1 ∧ a2 k = nI f)
theorem zs_nm {k : Nat} (h : k < 2 ^ 31) : ¬ nI k = -1 := by
  intro e
  have q := nI_pos h
  rw [e] at q
  exact q (by decide)
theorem zs_10 {a : Int32} (h : a = 0) (g : a = 1) : False := by
  rw [h] at g
  exact absurd g (by decide)
theorem zs_inj {a b : Nat} {v : Int32} (ha : a < 12) (hb : b < 12) (h : v = nI a) (g : v = nI b) : a = b :=
  (nI_eq (by omega) (by omega)).mp (h.symm.trans g)
theorem zs_ix (f i : Nat) : nI f * 16 + nI i = nI (f * 16 + i) := by
  rw [show (16 : Int32) = nI 16 from rfl, pk_mul, nI_add]
theorem zs_free {x y : Nat} {M : Nat → Nat → Int32} {a1 a2 a3 a4 : Nat → Int32} (h : zs_I x y M a1 a2 a3 a4) : ∃ f, f < 3 ∧ a4 f = -1 := by
  obtain ⟨h1, h2⟩ := h
  have g : ∀ f, f < 3 → a4 f = -1 ∨ a2 x = nI f ∨ a2 y = nI f := by
    intro f hf
    rcases h2 f hf with e | ⟨k, hk, e1, e2, e3⟩
    · exact Or.inl e
    · rcases h1 k hk with ⟨w, _⟩ | ⟨_, hxy, _⟩
      · exact (zs_10 w e2).elim
      · rcases hxy with r | r
        · rw [r] at e3
          exact Or.inr (Or.inl e3)
        · rw [r] at e3
          exact Or.inr (Or.inr e3)
  rcases g 0 (by omega) with e0 | e0 | e0 <;> rcases g 1 (by omega) with e1 | e1 | e1 <;> rcases g 2 (by omega) with e2 | e2 | e2 <;>
    first
    | exact ⟨0, by omega, e0⟩
    | exact ⟨1, by omega, e1⟩
    | exact ⟨2, by omega, e2⟩
    | exact absurd (zs_inj (by omega) (by omega) e0 e1) (by omega)
    | exact absurd (zs_inj (by omega) (by omega) e0 e2) (by omega)
    | exact absurd (zs_inj (by omega) (by omega) e1 e2) (by omega)
/-- another text of the same picture -/
theorem zs_ext {x y : Nat} {M M' : Nat → Nat → Int32} {a1 a2 a3 a4 : Nat → Int32} (h : zs_I x y M a1 a2 a3 a4) (e : ∀ k j, k < 12 → j < 16 → M' k j = M k j) : zs_I x y M' a1 a2 a3 a4 := by
  obtain ⟨h1, h2⟩ := h
  refine ⟨fun k hk => ?_, h2⟩
  rcases h1 k hk with ⟨w, ww⟩ | ⟨z1, z2, f, hf, z3, z4, z5⟩
  · exact Or.inl ⟨w, fun j hj => by rw [e k j hk hj]; exact ww j hj⟩
  · exact Or.inr ⟨z1, z2, f, hf, z3, z4, fun j hj => by rw [e k j hk hj]; exact z5 j hj⟩
/-- a page in a frame: its frame is its own -/
theorem zs_own {x y : Nat} {M : Nat → Nat → Int32} {a1 a2 a3 a4 : Nat → Int32} {k f : Nat} (h : zs_I x y M a1 a2 a3 a4) (hk : k < 12) (hf : f < 3) (e1 : a1 k = 1) (e2 : a2 k = nI f) : a4 f = nI k ∧ (k = x ∨ k = y) ∧ ∀ j, j < 16 → a3 (f * 16 + j) = M k j := by
  rcases h.1 k hk with ⟨w, _⟩ | ⟨z1, z2, f', hf', z3, z4, z5⟩
  · exact (zs_10 w e1).elim
  · have ef : f' = f := zs_inj (by omega) (by omega) z3 e2
    subst ef
    exact ⟨z4, z2, z5⟩
theorem zs_row {x y : Nat} {M M' : Nat → Nat → Int32} {a1 a2 a3 a3' a4 : Nat → Int32} {k f : Nat} (h : zs_I x y M a1 a2 a3 a4) (hk : k < 12) (hf : f < 3) (e1 : a1 k = 1) (e2 : a2 k = nI f)
    (o : ∀ m, m < f * 16 ∨ f * 16 + 16 ≤ m → a3' m = a3 m) (w : ∀ j, j < 16 → a3' (f * 16 + j) = M' k j) (r : ∀ k' j, k' < 12 → k' ≠ k → j < 16 → M' k' j = M k' j) : zs_I x y M' a1 a2 a3' a4 := by
  obtain ⟨y4, y2, y5⟩ := zs_own h hk hf e1 e2
  obtain ⟨h1, h2⟩ := h
  refine ⟨fun k' hk' => ?_, h2⟩
  by_cases e : k' = k
  · subst e
    exact Or.inr ⟨e1, y2, f, hf, e2, y4, w⟩
  · rcases h1 k' hk' with ⟨q, qq⟩ | ⟨z1, z2, f', hf', z3, z4, z5⟩
    · exact Or.inl ⟨q, fun j hj => by rw [r k' j hk' e hj]; exact qq j hj⟩
    · have ef : f' ≠ f := by
        intro q
        subst q
        exact e (zs_inj hk' hk z4 y4)
      exact Or.inr ⟨z1, z2, f', hf', z3, z4, fun j hj => by rw [o _ (by omega), r k' j hk' e hj]; exact z5 j hj⟩
theorem zs_put {x y : Nat} {M : Nat → Nat → Int32} {a1 a2 a3 a3' a4 : Nat → Int32} {k f : Nat} (h : zs_I x y M a1 a2 a3 a4) (hk : k < 12) (hx : k = x ∨ k = y) (hf : f < 3) (e1 : a1 k = 0) (e4 : a4 f = -1)
    (o : ∀ m, m < f * 16 ∨ f * 16 + 16 ≤ m → a3' m = a3 m) (w : ∀ j, j < 16 → a3' (f * 16 + j) = 0) : zs_I x y M (upd (upd a1 k 0) k 1) (upd a2 k (nI f)) a3' (upd a4 f (nI k)) := by
  obtain ⟨h1, h2⟩ := h
  refine ⟨fun k' hk' => ?_, fun f' hf' => ?_⟩
  · by_cases e : k' = k
    · subst e
      refine Or.inr ⟨pk_us, hx, f, hf, pk_us, pk_us, fun j hj => ?_⟩
      rw [w j hj]
      rcases h1 k' hk' with ⟨_, q⟩ | ⟨q, _⟩
      · exact (q j hj).symm
      · exact (zs_10 e1 q).elim
    · rw [pk_un e, pk_un e, pk_un e]
      rcases h1 k' hk' with q | ⟨z1, z2, f', hf', z3, z4, z5⟩
      · exact Or.inl q
      · have ef : f' ≠ f := by
          intro q
          subst q
          rw [e4] at z4
          exact zs_nm (show k' < 2 ^ 31 by omega) z4.symm
        exact Or.inr ⟨z1, z2, f', hf', z3, by rw [pk_un ef]; exact z4, fun j hj => by rw [o _ (by omega)]; exact z5 j hj⟩
  · by_cases e : f' = f
    · subst e
      exact Or.inr ⟨k, hk, pk_us, pk_us, pk_us⟩
    · rw [pk_un e]
      rcases h2 f' hf' with q | ⟨k', hk', q1, q2, q3⟩
      · exact Or.inl q
      · have ek : k' ≠ k := by
          intro q
          subst q
          exact zs_10 e1 q2
        exact Or.inr ⟨k', hk', q1, by rw [pk_un ek, pk_un ek]; exact q2, by rw [pk_un ek]; exact q3⟩
theorem zs_rel1 {x y : Nat} {M M' : Nat → Nat → Int32} {a1 a2 a3 a4 : Nat → Int32} {k f : Nat} (h : zs_I x y M a1 a2 a3 a4) (hk : k < 12) (hf : f < 3) (e1 : a1 k = 1) (e2 : a2 k = nI f)
    (w : ∀ j, j < 16 → M' k j = 0) (r : ∀ k' j, k' < 12 → k' ≠ k → j < 16 → M' k' j = M k' j) : zs_I x y M' (upd a1 k 0) a2 a3 (upd a4 f (-1)) := by
  obtain ⟨y4, y2, y5⟩ := zs_own h hk hf e1 e2
  obtain ⟨h1, h2⟩ := h
  refine ⟨fun k' hk' => ?_, fun f' hf' => ?_⟩
  · by_cases e : k' = k
    · subst e
      exact Or.inl ⟨pk_us, w⟩
    · rw [pk_un e]
      rcases h1 k' hk' with ⟨q, qq⟩ | ⟨z1, z2, f', hf', z3, z4, z5⟩
      · exact Or.inl ⟨q, fun j hj => by rw [r k' j hk' e hj]; exact qq j hj⟩
      · have ef : f' ≠ f := by
          intro q
          subst q
          exact e (zs_inj hk' hk z4 y4)
        exact Or.inr ⟨z1, z2, f', hf', z3, by rw [pk_un ef]; exact z4, fun j hj => by rw [r k' j hk' e hj]; exact z5 j hj⟩
  · by_cases e : f' = f
    · subst e
      exact Or.inl pk_us
    · rw [pk_un e]
      rcases h2 f' hf' with q | ⟨k', hk', q1, q2, q3⟩
      · exact Or.inl q
      · have ek : k' ≠ k := by
          intro q
          subst q
          exact e (zs_inj (by omega) (by omega) q3 e2)
        exact Or.inr ⟨k', hk', q1, by rw [pk_un ek]; exact q2, q3⟩
theorem zs_rel0 {x y : Nat} {M M' : Nat → Nat → Int32} {a1 a2 a3 a4 : Nat → Int32} {k : Nat} (h : zs_I x y M a1 a2 a3 a4) (e1 : a1 k = 0)
    (w : ∀ j, j < 16 → M' k j = 0) (r : ∀ k' j, k' < 12 → k' ≠ k → j < 16 → M' k' j = M k' j) : zs_I x y M' (upd a1 k 0) a2 a3 a4 := by
  obtain ⟨h1, h2⟩ := h
  refine ⟨fun k' hk' => ?_, fun f' hf' => ?_⟩
  · by_cases e : k' = k
    · subst e
      exact Or.inl ⟨pk_us, w⟩
    · rw [pk_un e]
      rcases h1 k' hk' with ⟨q, qq⟩ | ⟨z1, z2, f', hf', z3, z4, z5⟩
      · exact Or.inl ⟨q, fun j hj => by rw [r k' j hk' e hj]; exact qq j hj⟩
      · exact Or.inr ⟨z1, z2, f', hf', z3, z4, fun j hj => by rw [r k' j hk' e hj]; exact z5 j hj⟩
  · rcases h2 f' hf' with q | ⟨k', hk', q1, q2, q3⟩
    · exact Or.inl q
    · have ek : k' ≠ k := by
        intro q
        subst q
        exact zs_10 e1 q2
      exact Or.inr ⟨k', hk', q1, by rw [pk_un ek]; exact q2, q3⟩
/-- what a page's place is: nowhere or a frame -/
def zs_D (a1 a2 : Nat → Int32) : Prop := ∀ k, k < 12 → a1 k = 0 ∨ ∃ f, f < 3 ∧ a1 k = 1 ∧ a2 k = nI f
theorem zs_ID {x y : Nat} {M : Nat → Nat → Int32} {a1 a2 a3 a4 : Nat → Int32} (h : zs_I x y M a1 a2 a3 a4) : zs_D a1 a2 := by
  intro k hk
  rcases h.1 k hk with ⟨w, _⟩ | ⟨z1, z2, f, hf, z3, z4, z5⟩
  · exact Or.inl w
  · exact Or.inr ⟨f, hf, z1, z3⟩
theorem zs_Dx {a1 a2 : Nat → Int32} {k l : Nat} (h : zs_D a1 a2) (hk : k < 12) (hl : l < 12) : zs_D (upd (upd a1 k (a1 l)) l (a1 k)) (upd (upd a2 k (a2 l)) l (a2 k)) := by
  intro n hn
  by_cases e : n = l
  · subst e
    rw [pk_us, pk_us]
    exact h k hk
  · rw [pk_un e, pk_un e]
    by_cases e' : n = k
    · subst e'
      rw [pk_us, pk_us]
      exact h l hl
    · rw [pk_un e', pk_un e']
      exact h n hn
end
section
theorem zs_blankFrame {post : Int32 → Prop} {c z : Int32} {a1 a2 a3 a4 a5 a6 a7 a8 a9 a10 a11 a12 a13 a14 : Nat → Int32} {f : Nat} (hf : f < 3)
    (H : ∀ r : Int32, ((r = 1 ∧ ∀ j, j < 16 → a3 (f * 16 + j) = 0) ∨ (r = 0 ∧ ∃ j, j < 16 ∧ ¬ a3 (f * 16 + j) = 0)) → post r) : wpX_blankFrame post (c, z, a1, a2, a3, a4, a5, a6, a7, a8, a9, a10, a11, a12, a13, a14) (nI f) :=
  pk_loop (fun n i s => wX_blankFrame_4 post (nI f) c z a1 a2 a3 a4 a5 a6 a7 a8 a9 a10 a11 a12 a13 a14 n s (nI i)) (fun i s => (s = 1 ∧ ∀ j, j < i → a3 (f * 16 + j) = 0) ∨ (s = 0 ∧ ∃ j, j < i ∧ ¬ a3 (f * 16 + j) = 0)) 16 0 1 (by omega) (Or.inl ⟨rfl, fun j hj => absurd hj (by omega)⟩)
    (fun n s h => pk_le 16 16 (fun _ => ⟨by rcases h with ⟨e, _⟩ | ⟨e, _⟩ <;> subst e <;> rfl, H s h⟩) (fun q => absurd q (by omega)))
    (fun n i s hi h hw => pk_le 16 i (fun q => absurd q (by omega)) (fun _ => by
      rcases h with ⟨e, h⟩ | ⟨e, j, hj, h⟩
      · subst e
        refine br_f (by decide) ⟨pk_in (f * 16 + i) 48 (by omega) (zs_ix f i), ?_⟩
        rw [pk_cl (f * 16 + i) (zs_ix f i)]
        exact br_c (fun g => nm_r (nI_1 i) (hw 1 (Or.inl ⟨rfl, lt_s h g⟩))) (fun g => nm_r (nI_1 i) (hw 0 (Or.inr ⟨rfl, i, by omega, g⟩)))
      · subst e
        exact br_t rfl (nm_r (nI_1 i) (hw 0 (Or.inr ⟨rfl, j, by omega, h⟩)))))
theorem zs_freeFrame {post : Int32 → St2 → Prop} {c z : Int32} {a1 a2 a3 a4 a5 a6 a7 a8 a9 a10 a11 a12 a13 a14 : Nat → Int32} (h : ∃ f, f < 3 ∧ a4 f = -1) (h2 : ∀ f, f < 3 → a4 f = -1 ∨ ∃ k, k < 12 ∧ a4 f = nI k)
    (H : ∀ f, f < 3 → a4 f = -1 → post (nI f) (c, z, a1, a2, a3, a4, a5, a6, a7, a8, a9, a10, a11, a12, a13, a14)) : wpX_freeFrame post (c, z, a1, a2, a3, a4, a5, a6, a7, a8, a9, a10, a11, a12, a13, a14) :=
  pk_loop (fun n i (o : Nat) => wX_freeFrame_4 post c z a1 a2 a3 a4 a5 a6 a7 a8 a9 a10 a11 a12 a13 a14 n (nI o) (nI i)) (fun i o => o ≤ i ∧ ∀ j, j < i → ¬ a4 j = -1) 3 0 0 (by omega) ⟨by omega, fun j hj => absurd hj (by omega)⟩
    (fun n o q => False.elim (by
      obtain ⟨f, hf, e⟩ := h
      exact q.2 f hf e))
    (fun n i o hi q hw => pk_le 3 i (fun t => absurd t (by omega)) (fun _ => ⟨pk_in i 3 hi, by
      have q1 : o ≤ i := q.1
      rw [nI_clamp (show i < 2 ^ 31 by omega), nI_clamp (show o < 2 ^ 31 by omega)]
      rcases h2 i hi with e | ⟨k, hk, e⟩
      · exact br_f (by rw [e]; decide) (H i hi e)
      · have g : ¬ a4 i = -1 := by
          rw [e]
          exact zs_nm (by omega)
        exact br_t (by rw [e]; exact nI_pos' (by omega)) ⟨pk_in i 3 hi, pk_in o 3 (by omega), br_c (fun _ => nm_r (nI_1 i) (hw o ⟨by omega, lt_s q.2 g⟩)) (fun _ => nm_r (nI_1 i) (hw i ⟨by omega, lt_s q.2 g⟩))⟩⟩))
theorem zs_release0 {post : St2 → Prop} {c z : Int32} {a1 a2 a3 a4 a5 a6 a7 a8 a9 a10 a11 a12 a13 a14 : Nat → Int32} {k : Nat} (hk : k < 12) (e : a1 k = 0) (H : post (c, z, upd a1 k 0, a2, a3, a4, a5, a6, a7, a8, a9, a10, a11, a12, a13, a14)) : wpX_release post (c, z, a1, a2, a3, a4, a5, a6, a7, a8, a9, a10, a11, a12, a13, a14) (nI k) := by
  unfold wpX_release
  dsimp only
  rw [nI_clamp (show k < 2 ^ 31 by omega)]
  exact ⟨pk_in k 12 hk, br_f (by rw [e]; decide) ⟨pk_in k 12 hk, br_f (by rw [e]; decide) ⟨pk_in k 12 hk, br_f (by rw [e]; decide) ⟨pk_in k 12 hk, nm_e H⟩⟩⟩⟩
theorem zs_release1 {post : St2 → Prop} {c z : Int32} {a1 a2 a3 a4 a5 a6 a7 a8 a9 a10 a11 a12 a13 a14 : Nat → Int32} {k f : Nat} (hk : k < 12) (hf : f < 3) (e : a1 k = 1) (e2 : a2 k = nI f) (H : post (c, z, upd a1 k 0, a2, a3, upd a4 f (-1), a5, a6, a7, a8, a9, a10, a11, a12, a13, a14)) : wpX_release post (c, z, a1, a2, a3, a4, a5, a6, a7, a8, a9, a10, a11, a12, a13, a14) (nI k) := by
  unfold wpX_release
  dsimp only
  rw [nI_clamp (show k < 2 ^ 31 by omega)]
  refine ⟨pk_in k 12 hk, br_t e ⟨pk_in k 12 hk, pk_in f 3 hf e2, nm_r (e' := upd a4 f (-1)) (by rw [e2, nI_clamp (by omega)]) ⟨pk_in k 12 hk, nm_e H⟩⟩⟩
theorem zs_bring_147 {post : Int32 → St2 → Prop} {c z : Int32} {a1 a2 a3 a4 a5 a6 a7 a8 a9 a10 a11 a12 a13 a14 : Nat → Int32} {k f : Nat} (hk : k < 12) (hf : f < 3)
    (H : ∀ b3, (∀ j, j < 16 → b3 (f * 16 + j) = a13 j) → (∀ m, m < f * 16 ∨ f * 16 + 16 ≤ m → b3 m = a3 m) → post (nI f * 16) (c + 1, z, upd a1 k 1, upd a2 k (nI f), b3, upd a4 f (nI k), upd a5 f (c + 1), a6, a7, a8, a9, a10, a11, a12, a13, a14)) :
    ∃ n, wX_bring_147 post (nI k) (nI f) c z n 0 a1 a2 a3 a4 a5 a6 a7 a8 a9 a10 a11 a12 a13 a14 :=
  pk_loop (fun n i s => wX_bring_147 post (nI k) (nI f) c z n (nI i) a1 a2 s a4 a5 a6 a7 a8 a9 a10 a11 a12 a13 a14) (fun i s => (∀ j, j < i → s (f * 16 + j) = a13 j) ∧ ∀ m, m < f * 16 ∨ f * 16 + 16 ≤ m → s m = a3 m) 16 0 a3 (by omega) ⟨fun j hj => absurd hj (by omega), fun _ _ => rfl⟩
    (fun n s h => pk_le 16 16 (fun _ => ⟨pk_in f 3 hf, nm_r (e' := upd a4 f (nI k)) (by rw [nI_clamp (by omega)]) (nm_e ⟨pk_in f 3 hf, nm_r (e' := upd a5 f (c + 1)) (by rw [nI_clamp (by omega)]) ⟨pk_in k 12 hk, nm_r (e' := upd a1 k 1) (by rw [nI_clamp (by omega)]) ⟨pk_in k 12 hk, nm_r (e' := upd a2 k (nI f)) (by rw [nI_clamp (by omega)]) (H s h.1 h.2)⟩⟩⟩)⟩) (fun q => absurd q (by omega)))
    (fun n i s hi h hw => pk_le 16 i (fun q => absurd q (by omega)) (fun _ => ⟨pk_in i 16 hi, pk_in (f * 16 + i) 48 (by omega) (zs_ix f i), nm_r (e' := upd s (f * 16 + i) (a13 i)) (by rw [pk_cl (f * 16 + i) (zs_ix f i), nI_clamp (by omega)]) (nm_r (nI_1 i) (hw _ ⟨lt_s (fun j hj => by rw [pk_un (by omega)]; exact h.1 j hj) pk_us, fun m hm => by rw [pk_un (by omega)]; exact h.2 m hm⟩))⟩))
theorem zs_bring_140 {post : Int32 → St2 → Prop} {c z : Int32} {a1 a2 a3 a4 a5 a6 a7 a8 a9 a10 a11 a12 a13 a14 : Nat → Int32} {k f : Nat} (hk : k < 12) (hf : f < 3) (e : a1 k = 0)
    (H : ∀ b3, (∀ j, j < 16 → b3 (f * 16 + j) = a13 j) → (∀ m, m < f * 16 ∨ f * 16 + 16 ≤ m → b3 m = a3 m) → post (nI f * 16) (c + 1, z, upd (upd a1 k 0) k 1, upd a2 k (nI f), b3, upd a4 f (nI k), upd a5 f (c + 1), a6, a7, a8, a9, a10, a11, a12, a13, a14)) :
    wX_bring_140 post (nI k) (nI f) c z a1 a2 a3 a4 a5 a6 a7 a8 a9 a10 a11 a12 a13 a14 := by
  unfold wX_bring_140
  exact zs_release0 hk e (zs_bring_147 hk hf H)
theorem zs_bring_52 {post : Int32 → St2 → Prop} {c z : Int32} {a1 a2 a3 a4 a5 a6 a7 a8 a9 a10 a11 a12 a13 a14 : Nat → Int32} {k f : Nat} (hk : k < 12) (hf : f < 3) (e : a1 k = 0)
    (H : ∀ b3 b13, (∀ j, j < 16 → b3 (f * 16 + j) = 0) → (∀ m, m < f * 16 ∨ f * 16 + 16 ≤ m → b3 m = a3 m) → post (nI f * 16) (c + 1, z, upd (upd a1 k 0) k 1, upd a2 k (nI f), b3, upd a4 f (nI k), upd a5 f (c + 1), a6, a7, a8, a9, a10, a11, a12, b13, a14)) :
    ∃ n, wX_bring_52 post (nI k) (nI f) c z n 0 a1 a2 a3 a4 a5 a6 a7 a8 a9 a10 a11 a12 a13 a14 :=
  pk_loop (fun n i s => wX_bring_52 post (nI k) (nI f) c z n (nI i) a1 a2 a3 a4 a5 a6 a7 a8 a9 a10 a11 a12 s a14) (fun i s => ∀ j, j < i → s j = 0) 16 0 a13 (by omega) (fun j hj => absurd hj (by omega))
    (fun n s h => pk_le 16 16 (fun _ => by
      rw [nI_clamp (show k < 2 ^ 31 by omega)]
      exact ⟨pk_in k 12 hk, br_f (by rw [e]; decide) ⟨pk_in k 12 hk, br_f (by rw [e]; decide) (zs_bring_140 hk hf e (fun b3 g1 g2 => H b3 s (fun j hj => by rw [g1 j hj]; exact h j hj) g2))⟩⟩) (fun q => absurd q (by omega)))
    (fun n i s hi h hw => pk_le 16 i (fun q => absurd q (by omega)) (fun _ => ⟨pk_in i 16 hi, nm_r (e' := upd s i 0) (by rw [nI_clamp (by omega)]) (nm_r (nI_1 i) (hw _ (lt_s (fun j hj => by rw [pk_un (by omega)]; exact h j hj) pk_us)))⟩))
theorem zs_bring {post : Int32 → St2 → Prop} {c z : Int32} {a1 a2 a3 a4 a5 a6 a7 a8 a9 a10 a11 a12 a13 a14 : Nat → Int32} {x y k : Nat} {M : Nat → Nat → Int32} (h : zs_I x y M a1 a2 a3 a4) (hk : k < 12) (hx : k = x ∨ k = y)
    (H : ∀ f c' b1 b2 b3 b4 b5 b13, f < 3 → zs_I x y M b1 b2 b3 b4 → b1 k = 1 → b2 k = nI f → (∀ j, j < 16 → b3 (f * 16 + j) = M k j) → post (nI (f * 16)) (c', z, b1, b2, b3, b4, b5, a6, a7, a8, a9, a10, a11, a12, b13, a14)) :
    wpX_bring post (c, z, a1, a2, a3, a4, a5, a6, a7, a8, a9, a10, a11, a12, a13, a14) (nI k) := by
  unfold wpX_bring
  dsimp only
  rw [nI_clamp (show k < 2 ^ 31 by omega)]
  refine nm_e ⟨pk_in k 12 hk, ?_⟩
  rcases h.1 k hk with ⟨e1, _⟩ | ⟨e1, _, f, hf, e2, _, e5⟩
  · refine br_f (by rw [e1]; decide) (zs_freeFrame (zs_free h) (fun f hf => ?_) (fun f hf e4 => ?_))
    · rcases h.2 f hf with q | ⟨k', hk', q, _⟩
      · exact Or.inl q
      · exact Or.inr ⟨k', hk', q⟩
    · refine zs_bring_52 hk hf e1 (fun b3 b13 g1 g2 => ?_)
      have q := zs_put h hk hx hf e1 e4 g2 g1
      have t := H f (c + 1 + 1) _ _ _ _ (upd a5 f (c + 1 + 1)) b13 hf q pk_us pk_us (zs_own q hk hf pk_us pk_us).2.2
      rw [← pk_mul f 16] at t
      exact t
  · refine br_t e1 ⟨pk_in k 12 hk, pk_in f 3 hf e2, nm_e ⟨pk_in k 12 hk, ?_⟩⟩
    have t := H f (c + 1) _ _ _ _ (upd a5 (a2 k).toNatClampNeg (c + 1)) a13 hf h e1 e2 e5
    rw [← pk_mul f 16] at t
    rw [e2]
    rw [e2] at t
    exact t
end
section
/-- a state that matches the picture -/
def zs_S (x y : Nat) (M : Nat → Nat → Int32) (u : St2) : Prop := match u with
  | (c, z, a1, a2, a3, a4, a5, a6, a7, a8, a9, a10, a11, a12, a13, a14) => zs_I x y M a1 a2 a3 a4
/-- and holds a row aside -/
def zs_H (x y : Nat) (M : Nat → Nat → Int32) (R : Nat → Int32) (u : St2) : Prop := match u with
  | (c, z, a1, a2, a3, a4, a5, a6, a7, a8, a9, a10, a11, a12, a13, a14) => zs_I x y M a1 a2 a3 a4 ∧ ∀ j, j < 16 → a14 j = R j
/-- an argument: out of its range, or a number -/
def zs_ar (n : Nat) (p : Int32) : Option Nat → Prop
  | none => p < 0 ∨ nI n ≤ p
  | some k => k < n ∧ p = nI k
theorem zs_get (n : Nat) (hn : n < 2 ^ 31) (p : Int32) : ∃ P, zs_ar n p P := by
  rcases pk_ix p hn with h | h | ⟨j, hj, h⟩
  · exact ⟨none, Or.inl h⟩
  · exact ⟨none, Or.inr h⟩
  · exact ⟨some j, hj, h⟩
theorem zs_bp0 {post : Int32 → Prop} {c z : Int32} {a1 a2 a3 a4 a5 a6 a7 a8 a9 a10 a11 a12 a13 a14 : Nat → Int32} {k : Nat} (hk : k < 12) (H : post 0) : wpX_badPage post (c, z, a1, a2, a3, a4, a5, a6, a7, a8, a9, a10, a11, a12, a13, a14) (nI k) :=
  br_f (nI_pos (by omega)) (br_t (nI_lt hk (by decide)) H)
theorem zs_bp1 {post : Int32 → Prop} {c z : Int32} {a1 a2 a3 a4 a5 a6 a7 a8 a9 a10 a11 a12 a13 a14 : Nat → Int32} {p : Int32} (h : p < 0 ∨ nI 12 ≤ p) (H : post 1) : wpX_badPage post (c, z, a1, a2, a3, a4, a5, a6, a7, a8, a9, a10, a11, a12, a13, a14) p := by
  rcases h with h | h
  · exact br_t h H
  · exact br_c (fun _ => H) (fun _ => br_f (Int32.not_lt.mpr h) H)
theorem zs_pl0 {post : Int32 → Prop} {c z : Int32} {a1 a2 a3 a4 a5 a6 a7 a8 a9 a10 a11 a12 a13 a14 : Nat → Int32} {k : Nat} (hk : k < 16) (H : post 0) : wpX_badPlace post (c, z, a1, a2, a3, a4, a5, a6, a7, a8, a9, a10, a11, a12, a13, a14) (nI k) :=
  br_f (nI_pos (by omega)) (br_t (nI_lt hk (by decide)) H)
theorem zs_pl1 {post : Int32 → Prop} {c z : Int32} {a1 a2 a3 a4 a5 a6 a7 a8 a9 a10 a11 a12 a13 a14 : Nat → Int32} {p : Int32} (h : p < 0 ∨ nI 16 ≤ p) (H : post 1) : wpX_badPlace post (c, z, a1, a2, a3, a4, a5, a6, a7, a8, a9, a10, a11, a12, a13, a14) p := by
  rcases h with h | h
  · exact br_t h H
  · exact br_c (fun _ => H) (fun _ => br_f (Int32.not_lt.mpr h) H)
theorem zs_by0 {post : Int32 → Prop} {c z : Int32} {a1 a2 a3 a4 a5 a6 a7 a8 a9 a10 a11 a12 a13 a14 : Nat → Int32} {k : Nat} (hk : k < 256) (H : post 0) : wpX_badByte post (c, z, a1, a2, a3, a4, a5, a6, a7, a8, a9, a10, a11, a12, a13, a14) (nI k) :=
  br_f (nI_pos (by omega)) (br_t (nI_le (b := 255) (by omega) (by decide)) H)
theorem zs_by1 {post : Int32 → Prop} {c z : Int32} {a1 a2 a3 a4 a5 a6 a7 a8 a9 a10 a11 a12 a13 a14 : Nat → Int32} {p : Int32} (h : p < 0 ∨ nI 256 ≤ p) (H : post 1) : wpX_badByte post (c, z, a1, a2, a3, a4, a5, a6, a7, a8, a9, a10, a11, a12, a13, a14) p := by
  rcases h with h | h
  · exact br_t h H
  · have g : ¬ p ≤ 255 := fun q => absurd (Int32.le_trans h q) (by decide)
    exact br_c (fun _ => H) (fun _ => br_f g H)
def zs_wr (M : Nat → Nat → Int32) (b : Int32) : Option Nat → Option Nat → Option Nat → Nat → Nat → Int32
  | some k, some s, some _ => fun k' j => if k' = k ∧ j = s then b else M k' j
  | _, _, _ => M
theorem zs_write {post : Int32 → St2 → Prop} {u : St2} {x y : Nat} {M : Nat → Nat → Int32} {p i b : Int32} {P I B : Option Nat} (hp : zs_ar 12 p P) (hi : zs_ar 16 i I) (hb : zs_ar 256 b B) (h : zs_S x y M u) (hx : ∀ k, P = some k → k = x ∨ k = y)
    (H : ∀ r u', zs_S x y (zs_wr M b P I B) u' → post r u') : wpX_write post u p i b := by
  obtain ⟨c, z, a1, a2, a3, a4, a5, a6, a7, a8, a9, a10, a11, a12, a13, a14⟩ := u
  unfold wpX_write
  dsimp only
  cases P with
  | none => exact zs_bp1 hp (br_f (by decide) (H _ _ h))
  | some k =>
    obtain ⟨hk, rfl⟩ := hp
    cases I with
    | none => exact zs_bp0 hk (br_t rfl (zs_pl1 hi (br_f (by decide) (H _ _ h))))
    | some s =>
      obtain ⟨hs, rfl⟩ := hi
      cases B with
      | none => exact zs_bp0 hk (br_t rfl (zs_pl0 hs (br_t rfl (zs_by1 hb (br_f (by decide) (H _ _ h))))))
      | some t =>
        obtain ⟨ht, rfl⟩ := hb
        refine zs_bp0 hk (br_t rfl (zs_pl0 hs (br_t rfl (zs_by0 ht (br_t rfl (zs_bring h hk (hx k rfl) ?_))))))
        intro f c' b1 b2 b3 b4 b5 b13 hf g e1 e2 e3
        refine ⟨pk_in (f * 16 + s) 48 (by omega) (nI_add _ _), nm_e ⟨pk_in (f * 16 + s) 48 (by omega) (nI_add _ _), nm_r (e' := upd b3 (f * 16 + s) (nI t)) (by rw [pk_cl (f * 16 + s) (nI_add _ _)]) (H _ _ ?_)⟩⟩
        refine zs_row g hk hf e1 e2 (fun m hm => pk_un (by omega)) (fun j hj => ?_) (fun k' j _ hk' _ => if_neg (fun q => hk' q.1))
        by_cases e : j = s
        · subst e
          rw [pk_us]
          exact (if_pos ⟨rfl, rfl⟩).symm
        · rw [pk_un (by omega), e3 j hj]
          exact (if_neg (fun q => e q.2)).symm
def zs_rd (M : Nat → Nat → Int32) : Option Nat → Option Nat → Int32
  | some k, some s => M k s
  | _, _ => -1
theorem zs_read {post : Int32 → St2 → Prop} {u : St2} {x y : Nat} {M : Nat → Nat → Int32} {p i : Int32} {P I : Option Nat} (hp : zs_ar 12 p P) (hi : zs_ar 16 i I) (h : zs_S x y M u) (hx : ∀ k, P = some k → k = x ∨ k = y)
    (H : ∀ u', zs_S x y M u' → post (zs_rd M P I) u') : wpX_read post u p i := by
  obtain ⟨c, z, a1, a2, a3, a4, a5, a6, a7, a8, a9, a10, a11, a12, a13, a14⟩ := u
  unfold wpX_read
  dsimp only
  cases P with
  | none => exact zs_bp1 hp (br_f (by decide) (H _ h))
  | some k =>
    obtain ⟨hk, rfl⟩ := hp
    cases I with
    | none => exact zs_bp0 hk (br_t rfl (zs_pl1 hi (br_f (by decide) (H _ h))))
    | some s =>
      obtain ⟨hs, rfl⟩ := hi
      refine zs_bp0 hk (br_t rfl (zs_pl0 hs (br_t rfl (zs_bring h hk (hx k rfl) ?_))))
      intro f c' b1 b2 b3 b4 b5 b13 hf g e1 e2 e3
      refine ⟨pk_in (f * 16 + s) 48 (by omega) (nI_add _ _), ?_⟩
      dsimp only
      rw [pk_cl (f * 16 + s) (nI_add _ _), e3 s hs]
      exact H _ g
theorem zs_hold {post : St2 → Prop} {c z : Int32} {a1 a2 a3 a4 a5 a6 a7 a8 a9 a10 a11 a12 a13 a14 : Nat → Int32} {x y k : Nat} {M : Nat → Nat → Int32} (h : zs_I x y M a1 a2 a3 a4) (hk : k < 12) (hx : k = x ∨ k = y)
    (H : ∀ u', zs_H x y M (M k) u' → post u') : wpX_hold post (c, z, a1, a2, a3, a4, a5, a6, a7, a8, a9, a10, a11, a12, a13, a14) (nI k) := by
  unfold wpX_hold
  dsimp only
  refine zs_bring h hk hx (fun f c' b1 b2 b3 b4 b5 b13 hf g e1 e2 e3 => ?_)
  exact pk_loop (fun n i s => wX_hold_8 post (nI (f * 16)) c' z n (nI i) b1 b2 b3 b4 b5 a6 a7 a8 a9 a10 a11 a12 b13 s) (fun i s => ∀ j, j < i → s j = M k j) 16 0 a14 (by omega) (fun j hj => absurd hj (by omega))
    (fun n s q => pk_le 16 16 (fun _ => H _ ⟨g, q⟩) (fun t => absurd t (by omega)))
    (fun n i s hi q hw => pk_le 16 i (fun t => absurd t (by omega)) (fun _ => ⟨pk_in (f * 16 + i) 48 (by omega) (nI_add _ _), pk_in i 16 hi, nm_r (e' := upd s i (b3 (f * 16 + i))) (by rw [pk_cl (f * 16 + i) (nI_add _ _), nI_clamp (by omega)]) (nm_r (nI_1 i) (hw _ (lt_s (fun j hj => by rw [pk_un (by omega)]; exact q j hj) (by rw [pk_us]; exact e3 i hi))))⟩))
def zs_mx (M : Nat → Nat → Int32) : Option Nat → Option Nat → Nat → Nat → Int32
  | some l, some k => fun k' j => if k' = l then M l j ^^^ M k j else M k' j
  | _, _ => M
def zs_ok : Option Nat → Option Nat → Int32
  | some _, some _ => 0
  | _, _ => -1
theorem zs_mix {post : Int32 → St2 → Prop} {u : St2} {x y : Nat} {M : Nat → Nat → Int32} {p q : Int32} {P Q : Option Nat} (hp : zs_ar 12 p P) (hq : zs_ar 12 q Q) (h : zs_S x y M u) (hx : ∀ k, P = some k → k = x ∨ k = y) (hy : ∀ k, Q = some k → k = x ∨ k = y)
    (H : ∀ u', zs_S x y (zs_mx M Q P) u' → post (zs_ok Q P) u') : wpX_mix post u q p := by
  obtain ⟨c, z, a1, a2, a3, a4, a5, a6, a7, a8, a9, a10, a11, a12, a13, a14⟩ := u
  unfold wpX_mix
  dsimp only
  cases Q with
  | none => exact zs_bp1 hq (br_f (by decide) (H _ h))
  | some l =>
    obtain ⟨hl, rfl⟩ := hq
    cases P with
    | none => exact zs_bp0 hl (br_t rfl (zs_bp1 hp (br_f (by decide) (H _ h))))
    | some k =>
      obtain ⟨hk, rfl⟩ := hp
      refine zs_bp0 hl (br_t rfl (zs_bp0 hk (br_t rfl (zs_hold h hk (hx k rfl) (fun u' hu => ?_)))))
      obtain ⟨c, z, a1, a2, a3, a4, a5, a6, a7, a8, a9, a10, a11, a12, a13, a14⟩ := u'
      obtain ⟨g, gh⟩ := hu
      refine zs_bring g hl (hy l rfl) (fun f c' b1 b2 b3 b4 b5 b13 hf g' e1 e2 e3 => ?_)
      exact pk_loop (fun n i s => wX_mix_32 post (nI (f * 16)) c' z n (nI i) b1 b2 s b4 b5 a6 a7 a8 a9 a10 a11 a12 b13 a14) (fun i s => (∀ j, j < i → s (f * 16 + j) = b3 (f * 16 + j) ^^^ a14 j) ∧ ∀ m, m < f * 16 ∨ f * 16 + i ≤ m → s m = b3 m) 16 0 b3 (by omega) ⟨fun j hj => absurd hj (by omega), fun _ _ => rfl⟩
        (fun n s q => pk_le 16 16 (fun _ => H _ (zs_row g' hl hf e1 e2 q.2 (fun j hj => by rw [q.1 j hj, e3 j hj, gh j hj]; exact (if_pos rfl).symm) (fun k' j _ hk' _ => if_neg hk'))) (fun t => absurd t (by omega)))
        (fun n i s hi q hw => pk_le 16 i (fun t => absurd t (by omega)) (fun _ => ⟨pk_in (f * 16 + i) 48 (by omega) (nI_add _ _), pk_in i 16 hi, pk_in (f * 16 + i) 48 (by omega) (nI_add _ _), nm_r (e' := upd s (f * 16 + i) (b3 (f * 16 + i) ^^^ a14 i)) (by rw [pk_cl (f * 16 + i) (nI_add _ _), nI_clamp (by omega), q.2 (f * 16 + i) (by omega)]) (nm_r (nI_1 i) (hw _ ⟨lt_s (fun j hj => by rw [pk_un (by omega)]; exact q.1 j hj) pk_us, fun m hm => by rw [pk_un (by omega)]; exact q.2 m (by omega)⟩))⟩))
theorem zs_fd {post : Int32 → St2 → Prop} {c z : Int32} {a1 a2 a3 a4 a5 a6 a7 a8 a9 a10 a11 a12 a13 a14 : Nat → Int32} {x y k : Nat} {M : Nat → Nat → Int32} (h : zs_I x y M a1 a2 a3 a4) (hk : k < 12) (hx : k = x ∨ k = y) (e : ∀ j, j < 16 → a14 j = M k j)
    (H : ∀ u', zs_S x y M u' → post (-4) u') : wpX_firstDifference post (c, z, a1, a2, a3, a4, a5, a6, a7, a8, a9, a10, a11, a12, a13, a14) (nI k) := by
  unfold wpX_firstDifference
  dsimp only
  refine zs_bring h hk hx (fun f c' b1 b2 b3 b4 b5 b13 hf g e1 e2 e3 => ?_)
  exact pk_loop (σ := Unit) (fun n i _ => wX_firstDifference_8 post (nI (f * 16)) c' z b1 b2 b3 b4 b5 a6 a7 a8 a9 a10 a11 a12 b13 a14 n (nI i)) (fun _ _ => True) 16 0 () (by omega) trivial
    (fun n _ _ => pk_le 16 16 (fun _ => H _ g) (fun t => absurd t (by omega)))
    (fun n i _ hi _ hw => pk_le 16 i (fun t => absurd t (by omega)) (fun _ => ⟨pk_in (f * 16 + i) 48 (by omega) (nI_add _ _), pk_in i 16 hi, br_t (by rw [pk_cl (f * 16 + i) (nI_add _ _), nI_clamp (by omega), e3 i hi, e i hi]) (nm_r (nI_1 i) (hw () trivial))⟩))
def zs_df : Option Nat → Option Nat → Int32
  | some _, some _ => -4
  | _, _ => -1
theorem zs_differ {post : Int32 → St2 → Prop} {u : St2} {x y : Nat} {M : Nat → Nat → Int32} {p q : Int32} {P Q : Option Nat} (hp : zs_ar 12 p P) (hq : zs_ar 12 q Q) (h : zs_S x y M u) (hx : ∀ k, P = some k → k = x ∨ k = y) (hy : ∀ k, Q = some k → k = x ∨ k = y)
    (he : ∀ k l, P = some k → Q = some l → ∀ j, j < 16 → M k j = M l j) (H : ∀ u', zs_S x y M u' → post (zs_df P Q) u') : wpX_differ post u p q := by
  obtain ⟨c, z, a1, a2, a3, a4, a5, a6, a7, a8, a9, a10, a11, a12, a13, a14⟩ := u
  unfold wpX_differ
  dsimp only
  cases P with
  | none => exact zs_bp1 hp (br_f (by decide) (H _ h))
  | some k =>
    obtain ⟨hk, rfl⟩ := hp
    cases Q with
    | none => exact zs_bp0 hk (br_t rfl (zs_bp1 hq (br_f (by decide) (H _ h))))
    | some l =>
      obtain ⟨hl, rfl⟩ := hq
      refine zs_bp0 hk (br_t rfl (zs_bp0 hl (br_t rfl (zs_hold h hk (hx k rfl) (fun u' hu => ?_)))))
      obtain ⟨c, z, a1, a2, a3, a4, a5, a6, a7, a8, a9, a10, a11, a12, a13, a14⟩ := u'
      obtain ⟨g, gh⟩ := hu
      refine zs_fd g hl (hy l rfl) (fun j hj => (gh j hj).trans (he k l rfl rfl j hj)) (fun u' hu => ?_)
      obtain ⟨c, z, a1, a2, a3, a4, a5, a6, a7, a8, a9, a10, a11, a12, a13, a14⟩ := u'
      exact H _ hu
def zs_fr (M : Nat → Nat → Int32) (b r : Int32) : Option Nat → Option Nat → Prop
  | some l, some _ => (∃ n, n < 16 ∧ r = nI n ∧ M l n = b ∧ ∀ j, j < n → ¬ M l j = b) ∨ (r = -4 ∧ ∀ j, j < 16 → ¬ M l j = b)
  | _, _ => r = -1
theorem zs_find {post : Int32 → St2 → Prop} {u : St2} {x y : Nat} {M : Nat → Nat → Int32} {q b : Int32} {Q B : Option Nat} (hq : zs_ar 12 q Q) (hb : zs_ar 256 b B) (h : zs_S x y M u) (hy : ∀ k, Q = some k → k = x ∨ k = y)
    (H : ∀ r u', zs_S x y M u' → zs_fr M b r Q B → post r u') : wpX_find post u q 0 b := by
  obtain ⟨c, z, a1, a2, a3, a4, a5, a6, a7, a8, a9, a10, a11, a12, a13, a14⟩ := u
  unfold wpX_find
  dsimp only
  cases Q with
  | none => exact zs_bp1 hq (br_f (by decide) (H _ _ h rfl))
  | some l =>
    obtain ⟨hl, rfl⟩ := hq
    cases B with
    | none => exact zs_bp0 hl (br_t rfl (zs_pl0 (k := 0) (by omega) (br_t rfl (zs_by1 hb (br_f (by decide) (H _ _ h rfl))))))
    | some t =>
      obtain ⟨ht, rfl⟩ := hb
      refine zs_bp0 hl (br_t rfl (zs_pl0 (k := 0) (by omega) (br_t rfl (zs_by0 ht (br_t rfl (zs_bring h hl (hy l rfl) ?_))))))
      intro f c' b1 b2 b3 b4 b5 b13 hf g e1 e2 e3
      exact pk_loop (σ := Unit) (fun n i _ => wX_find_36 post (nI t) (nI (f * 16)) c' z b1 b2 b3 b4 b5 a6 a7 a8 a9 a10 a11 a12 b13 a14 n (nI i)) (fun i _ => ∀ j, j < i → ¬ M l j = nI t) 16 0 () (by omega) (fun j hj => absurd hj (by omega))
        (fun n _ v => pk_le 16 16 (fun _ => H _ _ g (Or.inr ⟨rfl, v⟩)) (fun t => absurd t (by omega)))
        (fun n i _ hi v hw => pk_le 16 i (fun t => absurd t (by omega)) (fun _ => ⟨pk_in (f * 16 + i) 48 (by omega) (nI_add _ _), by
          rw [pk_cl (f * 16 + i) (nI_add _ _), e3 i hi]
          exact br_c (fun e => H _ _ g (Or.inl ⟨i, hi, rfl, e, v⟩)) (fun e => nm_r (nI_1 i) (hw () (lt_s v e)))⟩))
def zs_dr (M : Nat → Nat → Int32) : Option Nat → Nat → Nat → Int32
  | some k => fun k' j => if k' = k then 0 else M k' j
  | none => M
def zs_o1 : Option Nat → Int32
  | some _ => 0
  | none => -1
theorem zs_drop {post : Int32 → St2 → Prop} {u : St2} {x y : Nat} {M : Nat → Nat → Int32} {p : Int32} {P : Option Nat} (hp : zs_ar 12 p P) (h : zs_S x y M u)
    (H : ∀ u', zs_S x y (zs_dr M P) u' → post (zs_o1 P) u') : wpX_drop post u p := by
  obtain ⟨c, z, a1, a2, a3, a4, a5, a6, a7, a8, a9, a10, a11, a12, a13, a14⟩ := u
  unfold wpX_drop
  dsimp only
  cases P with
  | none => exact zs_bp1 hp (br_f (by decide) (H _ h))
  | some k =>
    obtain ⟨hk, rfl⟩ := hp
    refine zs_bp0 hk (br_t rfl ?_)
    have h' : zs_I x y M a1 a2 a3 a4 := h
    rcases h'.1 k hk with ⟨e1, _⟩ | ⟨e1, _, f, hf, e2, _, _⟩
    · exact zs_release0 hk e1 (H _ (zs_rel0 h' e1 (fun j _ => if_pos rfl) (fun k' j _ hk' _ => if_neg hk')))
    · exact zs_release1 hk hf e1 e2 (H _ (zs_rel1 h' hk hf e1 e2 (fun j _ => if_pos rfl) (fun k' j _ hk' _ => if_neg hk')))
/-- how many of the first n -/
def zs_cn (Z : Nat → Bool) : Nat → Nat
  | 0 => 0
  | n + 1 => zs_cn Z n + (if Z n = true then 1 else 0)
theorem zs_blank {post : Int32 → Prop} {u : St2} {x y : Nat} {M : Nat → Nat → Int32} (Z : Nat → Bool) (h : zs_S x y M u) (hZ : ∀ k, k < 12 → (Z k = true ↔ ∀ j, j < 16 → M k j = 0)) (H : post (nI (zs_cn Z 12))) : wpX_blank post u := by
  obtain ⟨c, z, a1, a2, a3, a4, a5, a6, a7, a8, a9, a10, a11, a12, a13, a14⟩ := u
  have h' : zs_I x y M a1 a2 a3 a4 := h
  refine pk_loop (σ := Unit) (fun n i _ => wX_blank_4 post c z a1 a2 a3 a4 a5 a6 a7 a8 a9 a10 a11 a12 a13 a14 n (nI (zs_cn Z i)) (nI i)) (fun _ _ => True) 12 0 () (by omega) trivial
    (fun n _ _ => pk_le 12 12 (fun _ => H) (fun t => absurd t (by omega)))
    (fun n i _ hi _ hw => pk_le 12 i (fun t => absurd t (by omega)) (fun _ => ⟨pk_in i 12 hi, ?_⟩))
  have hw' : wX_blank_4 post c z a1 a2 a3 a4 a5 a6 a7 a8 a9 a10 a11 a12 a13 a14 n (nI (zs_cn Z (i + 1))) (nI (i + 1)) := hw () trivial
  have t1 : Z i = true → ∀ r : Int32, ¬ r = 0 → wX_blank_46 post (wX_blank_4 post c z a1 a2 a3 a4 a5 a6 a7 a8 a9 a10 a11 a12 a13 a14 n) (nI (zs_cn Z i)) (nI i) r c z a1 a2 a3 a4 a5 a6 a7 a8 a9 a10 a11 a12 a13 a14 := by
    intro e r hr
    have q : zs_cn Z (i + 1) = zs_cn Z i + 1 := by
      show zs_cn Z i + (if Z i = true then 1 else 0) = _
      rw [if_pos e]
    rw [q] at hw'
    exact br_f hr (nm_r (nI_1 _) (nm_r (nI_1 i) hw'))
  have t0 : ¬ Z i = true → wX_blank_46 post (wX_blank_4 post c z a1 a2 a3 a4 a5 a6 a7 a8 a9 a10 a11 a12 a13 a14 n) (nI (zs_cn Z i)) (nI i) 0 c z a1 a2 a3 a4 a5 a6 a7 a8 a9 a10 a11 a12 a13 a14 := by
    intro e
    have q : zs_cn Z (i + 1) = zs_cn Z i := by
      show zs_cn Z i + (if Z i = true then 1 else 0) = _
      rw [if_neg e]
      rfl
    rw [q] at hw'
    exact br_t rfl (nm_r (nI_1 i) hw')
  rw [nI_clamp (show i < 2 ^ 31 by omega)]
  rcases h'.1 i hi with ⟨e1, z1⟩ | ⟨e1, _, f, hf, e2, _, e5⟩
  · refine br_t e1 ⟨pk_in i 12 hi, ?_⟩
    rw [nI_clamp (show i < 2 ^ 31 by omega)]
    exact br_f (by rw [e1]; decide) (t1 ((hZ i hi).mpr z1) 1 (by decide))
  · refine br_f (by rw [e1]; decide) ⟨pk_in i 12 hi, ?_⟩
    rw [nI_clamp (show i < 2 ^ 31 by omega)]
    refine br_t e1 ⟨pk_in i 12 hi, ?_⟩
    rw [e2]
    refine zs_blankFrame hf (fun r hr => ?_)
    rcases hr with ⟨e, g⟩ | ⟨e, j, hj, g⟩
    · exact t1 ((hZ i hi).mpr (fun j hj => by rw [← e5 j hj]; exact g j hj)) r (by rw [e]; decide)
    · rw [e]
      exact t0 (fun q => g (by rw [e5 j hj]; exact (hZ i hi).mp q j hj))
theorem zs_claim {post : St2 → Prop} {c z : Int32} {a1 a2 a3 a4 a5 a6 a7 a8 a9 a10 a11 a12 a13 a14 : Nat → Int32} {k : Nat} (hk : k < 12) (h : zs_D a1 a2) (H : ∀ b4, post (c, z, a1, a2, a3, b4, a5, a6, a7, a8, a9, a10, a11, a12, a13, a14)) : wpX_claim post (c, z, a1, a2, a3, a4, a5, a6, a7, a8, a9, a10, a11, a12, a13, a14) (nI k) := by
  unfold wpX_claim
  dsimp only
  rw [nI_clamp (show k < 2 ^ 31 by omega)]
  rcases h k hk with e | ⟨f, hf, e1, e2⟩
  · exact ⟨pk_in k 12 hk, br_f (by rw [e]; decide) ⟨pk_in k 12 hk, br_f (by rw [e]; decide) ⟨pk_in k 12 hk, br_f (by rw [e]; decide) (H _)⟩⟩⟩
  · exact ⟨pk_in k 12 hk, br_t e1 ⟨pk_in k 12 hk, pk_in f 3 hf e2, nm_e (H _)⟩⟩
theorem zs_exchange {post : Int32 → St2 → Prop} {u : St2} {x y : Nat} {M : Nat → Nat → Int32} {p q : Int32} {P Q : Option Nat} (hp : zs_ar 12 p P) (hq : zs_ar 12 q Q) (h : zs_S x y M u)
    (H : ∀ u', post (zs_ok P Q) u') : wpX_exchange post u p q := by
  obtain ⟨c, z, a1, a2, a3, a4, a5, a6, a7, a8, a9, a10, a11, a12, a13, a14⟩ := u
  unfold wpX_exchange
  dsimp only
  cases P with
  | none => exact zs_bp1 hp (br_f (by decide) (H _))
  | some k =>
    obtain ⟨hk, rfl⟩ := hp
    cases Q with
    | none => exact zs_bp0 hk (br_t rfl (zs_bp1 hq (br_f (by decide) (H _))))
    | some l =>
      obtain ⟨hl, rfl⟩ := hq
      have d : zs_D (upd (upd a1 k (a1 l)) l (a1 k)) (upd (upd a2 k (a2 l)) l (a2 k)) := zs_Dx (zs_ID h) hk hl
      rw [nI_clamp (show k < 2 ^ 31 by omega), nI_clamp (show l < 2 ^ 31 by omega)]
      have ik : vp_in (nI k) 12 := pk_in k 12 hk
      have il : vp_in (nI l) 12 := pk_in l 12 hl
      exact zs_bp0 hk (br_t rfl (zs_bp0 hl (br_t rfl ⟨ik, nm_e ⟨ik, nm_e ⟨il, ik, nm_e ⟨il, ik, nm_e ⟨il, nm_e ⟨il, nm_e (zs_claim hk d (fun _ => zs_claim hl d (fun _ => H _)))⟩⟩⟩⟩⟩⟩)))
theorem zs_init {post : St2 → Prop} {x y mc ms : Nat} (h1 : 14 ≤ mc) (h2 : 422 ≤ ms) (H : ∀ u', zs_S x y (fun _ _ => 0) u' → post u') : wpX_init post mc ms (0, 0) := by
  unfold wpX_init
  dsimp only
  refine ⟨by omega, by omega, by omega, by omega, by omega, by omega, by omega, by omega, by omega, by omega, by omega, by omega, by omega, by omega, by omega, by omega, by omega, by omega, by omega, by omega, by omega, by omega, by omega, by omega, by omega, by omega, by omega, by omega, ?_⟩
  refine pk_loop (fun n i s => wX_init_116 post mc ms 14 422 0 0 n (nI i) (fun _ => 0) (fun _ => 0) (fun _ => 0) s (fun _ => 0) (fun _ => 0) (fun _ => 0) (fun _ => 0) (fun _ => 0) (fun _ => 0) (fun _ => 0) (fun _ => 0) (fun _ => 0) (fun _ => 0)) (fun i s => ∀ j, j < i → s j = -1) 3 0 (fun _ => 0) (by omega) (fun j hj => absurd hj (by omega))
    (fun n s h => pk_le 3 3 (fun _ => ?_) (fun t => absurd t (by omega)))
    (fun n i s hi h hw => pk_le 3 i (fun t => absurd t (by omega)) (fun _ => ⟨pk_in i 3 hi, nm_r (e' := upd s i (-1)) (by rw [nI_clamp (by omega)]) (nm_r (nI_1 i) (hw _ (lt_s (fun j hj => by rw [pk_un (by omega)]; exact h j hj) pk_us)))⟩))
  refine pk_loop (fun n i t => wX_init_136 post mc ms 14 422 0 0 n (nI i) (fun _ => 0) (fun _ => 0) (fun _ => 0) s (fun _ => 0) (fun _ => 0) t (fun _ => 0) (fun _ => 0) (fun _ => 0) (fun _ => 0) (fun _ => 0) (fun _ => 0) (fun _ => 0)) (fun _ _ => True) 8 0 (fun _ => 0) (by omega) trivial
    (fun n t _ => pk_le 8 8 (fun _ => ?_) (fun t => absurd t (by omega)))
    (fun n i t hi _ hw => pk_le 8 i (fun t => absurd t (by omega)) (fun _ => ⟨pk_in i 8 hi, nm_e (nm_r (nI_1 i) (hw _ trivial))⟩))
  exact pk_loop (fun n i v => wX_init_157 post mc ms 14 422 0 0 n (nI i) (fun _ => 0) (fun _ => 0) (fun _ => 0) s (fun _ => 0) (fun _ => 0) t (fun _ => 0) (fun _ => 0) (fun _ => 0) v (fun _ => 0) (fun _ => 0) (fun _ => 0)) (fun _ _ => True) 12 0 (fun _ => 0) (by omega) trivial
    (fun n v _ => pk_le 12 12 (fun _ => H _ ⟨fun k hk => Or.inl ⟨rfl, fun _ _ => rfl⟩, fun f hf => Or.inl (h f hf)⟩) (fun t => absurd t (by omega)))
    (fun n i v hi _ hw => pk_le 12 i (fun t => absurd t (by omega)) (fun _ => ⟨pk_in i 12 hi, nm_e (nm_r (nI_1 i) (hw _ trivial))⟩))
end
section
theorem zs_450 {post : Int32 → St0 → Prop} {mc ms kc ks : Nat} {z0 z1 : Int32} (hp : post 1 ()) (h : z1 = z0) :
    wL_lawOf_450 post mc ms z0 z1 kc ks := by
  exact br_t h hp
theorem zs_425 {post : Int32 → St0 → Prop} {mc ms kc ks : Nat} {x12 x13 x19 x22 z0 z1 : Int32} (hp : post 1 ()) (h : z1 = z0) (h12 : x12 = 12 - x22) (h13 : x13 = if x19 = 0 then -1 else 0) :
    wL_lawOf_425 post mc ms x12 x13 x19 x22 z0 z1 kc ks := by
  exact br_t h (br_t h12 (br_c (fun e => zs_450 hp (h13.trans (if_pos e))) (fun e => zs_450 hp (h13.trans (if_neg e)))))
theorem zs_396 {post : Int32 → St0 → Prop} {mc ms kc ks : Nat} {x3 x11 x12 x13 x15 x16 x19 x20 x22 z0 z1 : Int32} (hp : post 1 ()) (h : z1 = z0) (h11 : x11 = if x15 = 0 ∨ x16 = 0 then -1 else if x20 = 0 then 0 else x3) (h12 : x12 = 12 - x22) (h13 : x13 = if x19 = 0 then -1 else 0) :
    wL_lawOf_396 post mc ms x3 x11 x12 x13 x15 x16 x19 x20 x22 z0 z1 kc ks := by
  exact br_t h (br_c (fun e => (zs_425 hp (h11.trans (if_pos (Or.inl e))) h12 h13)) (fun e => br_c (fun e2 => (zs_425 hp (h11.trans (if_pos (Or.inr e2))) h12 h13)) (fun e2 => br_c (fun e3 => (zs_425 hp (h11.trans ((if_neg (not_or.mpr ⟨e, e2⟩)).trans (if_pos e3))) h12 h13)) (fun e3 => (zs_425 hp (h11.trans ((if_neg (not_or.mpr ⟨e, e2⟩)).trans (if_neg e3))) h12 h13)))))
theorem zs_381 {post : Int32 → St0 → Prop} {mc ms kc ks : Nat} {x3 x10 x11 x12 x13 x14 x15 x16 x19 x20 x22 z0 z1 : Int32} (hp : post 1 ()) (h : z1 = z0) (h10 : x10 = if x14 = 0 then -1 else 0) (h11 : x11 = if x15 = 0 ∨ x16 = 0 then -1 else if x20 = 0 then 0 else x3) (h12 : x12 = 12 - x22) (h13 : x13 = if x19 = 0 then -1 else 0) :
    wL_lawOf_381 post mc ms x3 x10 x11 x12 x13 x14 x15 x16 x19 x20 x22 z0 z1 kc ks := by
  exact br_t h (br_c (fun e => (zs_396 hp (h10.trans (if_pos e)) h11 h12 h13)) (fun e => (zs_396 hp (h10.trans (if_neg e)) h11 h12 h13)))
theorem zs_343 {post : Int32 → St0 → Prop} {mc ms kc ks : Nat} {x2 x3 x9 x10 x11 x12 x13 x14 x15 x16 x17 x19 x20 x22 z0 z1 : Int32} (hp : post 1 ()) (h : z1 = z0) (h9 : x9 = if x15 = 0 ∨ x17 = 0 then -1 else if x3 = 0 then 0 else if x20 = 0 then -4 else x2) (h10 : x10 = if x14 = 0 then -1 else 0) (h11 : x11 = if x15 = 0 ∨ x16 = 0 then -1 else if x20 = 0 then 0 else x3) (h12 : x12 = 12 - x22) (h13 : x13 = if x19 = 0 then -1 else 0) :
    wL_lawOf_343 post mc ms x2 x3 x9 x10 x11 x12 x13 x14 x15 x16 x17 x19 x20 x22 z0 z1 kc ks := by
  exact br_t h (br_c (fun e => (zs_381 hp (h9.trans (if_pos (Or.inl e))) h10 h11 h12 h13)) (fun e => br_c (fun e2 => (zs_381 hp (h9.trans (if_pos (Or.inr e2))) h10 h11 h12 h13)) (fun e2 => br_c (fun e3 => (zs_381 hp (h9.trans ((if_neg (not_or.mpr ⟨e, e2⟩)).trans (if_pos e3))) h10 h11 h12 h13)) (fun e3 => br_c (fun e4 => (zs_381 hp (h9.trans ((if_neg (not_or.mpr ⟨e, e2⟩)).trans ((if_neg e3).trans (if_pos e4)))) h10 h11 h12 h13)) (fun e4 => (zs_381 hp (h9.trans ((if_neg (not_or.mpr ⟨e, e2⟩)).trans ((if_neg e3).trans (if_neg e4)))) h10 h11 h12 h13))))))
theorem zs_317 {post : Int32 → St0 → Prop} {mc ms kc ks : Nat} {x2 x3 x7 x8 x9 x10 x11 x12 x13 x14 x15 x16 x17 x19 x20 x21 x22 z0 z1 : Int32} (hp : post 1 ()) (h : z1 = z0) (h7 : x7 = 12 - x21) (h8 : x8 = if x19 = 0 then -1 else -4) (h9 : x9 = if x15 = 0 ∨ x17 = 0 then -1 else if x3 = 0 then 0 else if x20 = 0 then -4 else x2) (h10 : x10 = if x14 = 0 then -1 else 0) (h11 : x11 = if x15 = 0 ∨ x16 = 0 then -1 else if x20 = 0 then 0 else x3) (h12 : x12 = 12 - x22) (h13 : x13 = if x19 = 0 then -1 else 0) :
    wL_lawOf_317 post mc ms x2 x3 x7 x8 x9 x10 x11 x12 x13 x14 x15 x16 x17 x19 x20 x21 x22 z0 z1 kc ks := by
  exact br_t h (br_t h7 (br_c (fun e => (zs_343 hp (h8.trans (if_pos e)) h9 h10 h11 h12 h13)) (fun e => (zs_343 hp (h8.trans (if_neg e)) h9 h10 h11 h12 h13))))
theorem zs_288 {post : Int32 → St0 → Prop} {mc ms kc ks : Nat} {x2 x3 x6 x7 x8 x9 x10 x11 x12 x13 x14 x15 x16 x17 x19 x20 x21 x22 z0 z1 : Int32} (hp : post 1 ()) (h : z1 = z0) (h6 : x6 = if x15 = 0 ∨ x16 = 0 then -1 else if x20 = 0 then 0 else x3) (h7 : x7 = 12 - x21) (h8 : x8 = if x19 = 0 then -1 else -4) (h9 : x9 = if x15 = 0 ∨ x17 = 0 then -1 else if x3 = 0 then 0 else if x20 = 0 then -4 else x2) (h10 : x10 = if x14 = 0 then -1 else 0) (h11 : x11 = if x15 = 0 ∨ x16 = 0 then -1 else if x20 = 0 then 0 else x3) (h12 : x12 = 12 - x22) (h13 : x13 = if x19 = 0 then -1 else 0) :
    wL_lawOf_288 post mc ms x2 x3 x6 x7 x8 x9 x10 x11 x12 x13 x14 x15 x16 x17 x19 x20 x21 x22 z0 z1 kc ks := by
  exact br_t h (br_c (fun e => (zs_317 hp (h6.trans (if_pos (Or.inl e))) h7 h8 h9 h10 h11 h12 h13)) (fun e => br_c (fun e2 => (zs_317 hp (h6.trans (if_pos (Or.inr e2))) h7 h8 h9 h10 h11 h12 h13)) (fun e2 => br_c (fun e3 => (zs_317 hp (h6.trans ((if_neg (not_or.mpr ⟨e, e2⟩)).trans (if_pos e3))) h7 h8 h9 h10 h11 h12 h13)) (fun e3 => (zs_317 hp (h6.trans ((if_neg (not_or.mpr ⟨e, e2⟩)).trans (if_neg e3))) h7 h8 h9 h10 h11 h12 h13)))))
theorem zs_274 {post : Int32 → St0 → Prop} {mc ms kc ks : Nat} {x2 x3 x5 x6 x7 x8 x9 x10 x11 x12 x13 x14 x15 x16 x17 x19 x20 x21 x22 : Int32} (hp : post 1 ()) (h5 : x5 = if x19 = 0 then -1 else 0) (h6 : x6 = if x15 = 0 ∨ x16 = 0 then -1 else if x20 = 0 then 0 else x3) (h7 : x7 = 12 - x21) (h8 : x8 = if x19 = 0 then -1 else -4) (h9 : x9 = if x15 = 0 ∨ x17 = 0 then -1 else if x3 = 0 then 0 else if x20 = 0 then -4 else x2) (h10 : x10 = if x14 = 0 then -1 else 0) (h11 : x11 = if x15 = 0 ∨ x16 = 0 then -1 else if x20 = 0 then 0 else x3) (h12 : x12 = 12 - x22) (h13 : x13 = if x19 = 0 then -1 else 0) :
    wL_lawOf_274 post mc ms x2 x3 x5 x6 x7 x8 x9 x10 x11 x12 x13 x14 x15 x16 x17 x19 x20 x21 x22 kc ks := by
  exact br_c (fun e => (zs_288 hp (h5.trans (if_pos e)) h6 h7 h8 h9 h10 h11 h12 h13)) (fun e => (zs_288 hp (h5.trans (if_neg e)) h6 h7 h8 h9 h10 h11 h12 h13))
theorem zs_258 {post : Int32 → St0 → Prop} {mc ms kc ks : Nat} {x2 x3 x5 x6 x7 x8 x9 x10 x11 x12 x13 x14 x15 x16 x17 x19 x20 x21 x22 : Int32} (hp : post 1 ()) (h22 : x22 = if x20 = 0 ∨ x3 = 0 then 0 else 1) (h5 : x5 = if x19 = 0 then -1 else 0) (h6 : x6 = if x15 = 0 ∨ x16 = 0 then -1 else if x20 = 0 then 0 else x3) (h7 : x7 = 12 - x21) (h8 : x8 = if x19 = 0 then -1 else -4) (h9 : x9 = if x15 = 0 ∨ x17 = 0 then -1 else if x3 = 0 then 0 else if x20 = 0 then -4 else x2) (h10 : x10 = if x14 = 0 then -1 else 0) (h11 : x11 = if x15 = 0 ∨ x16 = 0 then -1 else if x20 = 0 then 0 else x3) (h12 : x12 = 12 - x22) (h13 : x13 = if x19 = 0 then -1 else 0) :
    wL_lawOf_258 post mc ms x2 x3 x5 x6 x7 x8 x9 x10 x11 x12 x13 x14 x15 x16 x17 x19 x20 x21 kc ks := by
  have t : wL_lawOf_274 post mc ms x2 x3 x5 x6 x7 x8 x9 x10 x11 x12 x13 x14 x15 x16 x17 x19 x20 x21 x22 kc ks := (zs_274 hp h5 h6 h7 h8 h9 h10 h11 h12 h13)
  refine br_c (fun e => ?_) (fun e => br_c (fun e2 => ?_) (fun e2 => ?_))
  · rw [h22, if_pos (Or.inl e)] at t
    exact t
  · rw [h22, if_pos (Or.inr e2)] at t
    exact t
  · rw [h22, if_neg (not_or.mpr ⟨e, e2⟩)] at t
    exact t
theorem zs_223 {post : Int32 → St0 → Prop} {mc ms kc ks : Nat} {x0 x1 x2 x3 x5 x6 x7 x8 x9 x10 x11 x12 x13 x14 x15 x16 x17 x18 x19 x20 x21 x22 : Int32} (hp : post 1 ()) (h21 : x21 = if x18 = 0 ∨ x3 = 0 ∨ (¬ x15 = 0 ∧ x0 = x1) then 0 else if x20 = 0 then 1 else 2) (h22 : x22 = if x20 = 0 ∨ x3 = 0 then 0 else 1) (h5 : x5 = if x19 = 0 then -1 else 0) (h6 : x6 = if x15 = 0 ∨ x16 = 0 then -1 else if x20 = 0 then 0 else x3) (h7 : x7 = 12 - x21) (h8 : x8 = if x19 = 0 then -1 else -4) (h9 : x9 = if x15 = 0 ∨ x17 = 0 then -1 else if x3 = 0 then 0 else if x20 = 0 then -4 else x2) (h10 : x10 = if x14 = 0 then -1 else 0) (h11 : x11 = if x15 = 0 ∨ x16 = 0 then -1 else if x20 = 0 then 0 else x3) (h12 : x12 = 12 - x22) (h13 : x13 = if x19 = 0 then -1 else 0) :
    wL_lawOf_223 post mc ms x0 x1 x2 x3 x5 x6 x7 x8 x9 x10 x11 x12 x13 x14 x15 x16 x17 x18 x19 x20 kc ks := by
  have t : wL_lawOf_258 post mc ms x2 x3 x5 x6 x7 x8 x9 x10 x11 x12 x13 x14 x15 x16 x17 x19 x20 x21 kc ks := (zs_258 hp h22 h5 h6 h7 h8 h9 h10 h11 h12 h13)
  refine br_c (fun e => ?_) (fun e => br_c (fun e2 => ?_) (fun e2 => br_c (fun e3 => ?_) (fun e3 => br_c (fun e4 => ?_) (fun e4 => ?_))))
  · rw [h21, if_pos (Or.inl e)] at t
    exact t
  · rw [h21, if_pos (Or.inr (Or.inl e2))] at t
    exact t
  · rw [h21, if_neg (not_or.mpr ⟨e, not_or.mpr ⟨e2, fun q => q.1 e3⟩⟩)] at t
    refine br_c (fun f => ?_) (fun f => ?_)
    · rw [if_pos f] at t
      exact t
    · rw [if_neg f] at t
      exact t
  · rw [h21, if_pos (Or.inr (Or.inr ⟨e3, e4⟩))] at t
    exact t
  · rw [h21, if_neg (not_or.mpr ⟨e, not_or.mpr ⟨e2, fun q => e4 q.2⟩⟩)] at t
    refine br_c (fun f => ?_) (fun f => ?_)
    · rw [if_pos f] at t
      exact t
    · rw [if_neg f] at t
      exact t
theorem zs_201 {post : Int32 → St0 → Prop} {mc ms kc ks : Nat} {x0 x1 x2 x3 x5 x6 x7 x8 x9 x10 x11 x12 x13 x14 x15 x16 x17 x18 x19 x20 x21 x22 : Int32} (hp : post 1 ()) (h20 : x20 = if x18 = 0 ∨ x15 = 0 ∨ x0 = x1 then 0 else 1) (h21 : x21 = if x18 = 0 ∨ x3 = 0 ∨ (¬ x15 = 0 ∧ x0 = x1) then 0 else if x20 = 0 then 1 else 2) (h22 : x22 = if x20 = 0 ∨ x3 = 0 then 0 else 1) (h5 : x5 = if x19 = 0 then -1 else 0) (h6 : x6 = if x15 = 0 ∨ x16 = 0 then -1 else if x20 = 0 then 0 else x3) (h7 : x7 = 12 - x21) (h8 : x8 = if x19 = 0 then -1 else -4) (h9 : x9 = if x15 = 0 ∨ x17 = 0 then -1 else if x3 = 0 then 0 else if x20 = 0 then -4 else x2) (h10 : x10 = if x14 = 0 then -1 else 0) (h11 : x11 = if x15 = 0 ∨ x16 = 0 then -1 else if x20 = 0 then 0 else x3) (h12 : x12 = 12 - x22) (h13 : x13 = if x19 = 0 then -1 else 0) :
    wL_lawOf_201 post mc ms x0 x1 x2 x3 x5 x6 x7 x8 x9 x10 x11 x12 x13 x14 x15 x16 x17 x18 x19 kc ks := by
  have t : wL_lawOf_223 post mc ms x0 x1 x2 x3 x5 x6 x7 x8 x9 x10 x11 x12 x13 x14 x15 x16 x17 x18 x19 x20 kc ks := (zs_223 hp h21 h22 h5 h6 h7 h8 h9 h10 h11 h12 h13)
  refine br_c (fun e => ?_) (fun e => br_c (fun e2 => ?_) (fun e2 => br_c (fun e3 => ?_) (fun e3 => ?_)))
  · rw [h20, if_pos (Or.inl e)] at t
    exact t
  · rw [h20, if_pos (Or.inr (Or.inl e2))] at t
    exact t
  · rw [h20, if_pos (Or.inr (Or.inr e3))] at t
    exact t
  · rw [h20, if_neg (not_or.mpr ⟨e, not_or.mpr ⟨e2, e3⟩⟩)] at t
    exact t
theorem zs_184 {post : Int32 → St0 → Prop} {mc ms kc ks : Nat} {x0 x1 x2 x3 x5 x6 x7 x8 x9 x10 x11 x12 x13 x14 x15 x16 x17 x18 x19 x20 x21 x22 : Int32} (hp : post 1 ()) (h19 : x19 = if x14 = 0 ∨ x15 = 0 then 0 else 1) (h20 : x20 = if x18 = 0 ∨ x15 = 0 ∨ x0 = x1 then 0 else 1) (h21 : x21 = if x18 = 0 ∨ x3 = 0 ∨ (¬ x15 = 0 ∧ x0 = x1) then 0 else if x20 = 0 then 1 else 2) (h22 : x22 = if x20 = 0 ∨ x3 = 0 then 0 else 1) (h5 : x5 = if x19 = 0 then -1 else 0) (h6 : x6 = if x15 = 0 ∨ x16 = 0 then -1 else if x20 = 0 then 0 else x3) (h7 : x7 = 12 - x21) (h8 : x8 = if x19 = 0 then -1 else -4) (h9 : x9 = if x15 = 0 ∨ x17 = 0 then -1 else if x3 = 0 then 0 else if x20 = 0 then -4 else x2) (h10 : x10 = if x14 = 0 then -1 else 0) (h11 : x11 = if x15 = 0 ∨ x16 = 0 then -1 else if x20 = 0 then 0 else x3) (h12 : x12 = 12 - x22) (h13 : x13 = if x19 = 0 then -1 else 0) :
    wL_lawOf_184 post mc ms x0 x1 x2 x3 x5 x6 x7 x8 x9 x10 x11 x12 x13 x14 x15 x16 x17 x18 kc ks := by
  have t : wL_lawOf_201 post mc ms x0 x1 x2 x3 x5 x6 x7 x8 x9 x10 x11 x12 x13 x14 x15 x16 x17 x18 x19 kc ks := (zs_201 hp h20 h21 h22 h5 h6 h7 h8 h9 h10 h11 h12 h13)
  refine br_c (fun e => ?_) (fun e => br_c (fun e2 => ?_) (fun e2 => ?_))
  · rw [h19, if_pos (Or.inl e)] at t
    exact t
  · rw [h19, if_pos (Or.inr e2)] at t
    exact t
  · rw [h19, if_neg (not_or.mpr ⟨e, e2⟩)] at t
    exact t
theorem zs_162 {post : Int32 → St0 → Prop} {mc ms kc ks : Nat} {x0 x1 x2 x3 x5 x6 x7 x8 x9 x10 x11 x12 x13 x14 x15 x16 x17 x18 x19 x20 x21 x22 : Int32} (hp : post 1 ()) (h18 : x18 = if x14 = 0 ∨ x16 = 0 ∨ x17 = 0 then 0 else 1) (h19 : x19 = if x14 = 0 ∨ x15 = 0 then 0 else 1) (h20 : x20 = if x18 = 0 ∨ x15 = 0 ∨ x0 = x1 then 0 else 1) (h21 : x21 = if x18 = 0 ∨ x3 = 0 ∨ (¬ x15 = 0 ∧ x0 = x1) then 0 else if x20 = 0 then 1 else 2) (h22 : x22 = if x20 = 0 ∨ x3 = 0 then 0 else 1) (h5 : x5 = if x19 = 0 then -1 else 0) (h6 : x6 = if x15 = 0 ∨ x16 = 0 then -1 else if x20 = 0 then 0 else x3) (h7 : x7 = 12 - x21) (h8 : x8 = if x19 = 0 then -1 else -4) (h9 : x9 = if x15 = 0 ∨ x17 = 0 then -1 else if x3 = 0 then 0 else if x20 = 0 then -4 else x2) (h10 : x10 = if x14 = 0 then -1 else 0) (h11 : x11 = if x15 = 0 ∨ x16 = 0 then -1 else if x20 = 0 then 0 else x3) (h12 : x12 = 12 - x22) (h13 : x13 = if x19 = 0 then -1 else 0) :
    wL_lawOf_162 post mc ms x0 x1 x2 x3 x5 x6 x7 x8 x9 x10 x11 x12 x13 x14 x15 x16 x17 kc ks := by
  have t : wL_lawOf_184 post mc ms x0 x1 x2 x3 x5 x6 x7 x8 x9 x10 x11 x12 x13 x14 x15 x16 x17 x18 kc ks := (zs_184 hp h19 h20 h21 h22 h5 h6 h7 h8 h9 h10 h11 h12 h13)
  refine br_c (fun e => ?_) (fun e => br_c (fun e2 => ?_) (fun e2 => br_c (fun e3 => ?_) (fun e3 => ?_)))
  · rw [h18, if_pos (Or.inl e)] at t
    exact t
  · rw [h18, if_pos (Or.inr (Or.inl e2))] at t
    exact t
  · rw [h18, if_pos (Or.inr (Or.inr e3))] at t
    exact t
  · rw [h18, if_neg (not_or.mpr ⟨e, not_or.mpr ⟨e2, e3⟩⟩)] at t
    exact t
end
section
/-- the picture of the law: the pages of A hold v at place s, all else is 0 -/
def zs_M (A : Nat → Bool) (s : Nat) (v : Int32) (k j : Nat) : Int32 := if A k = true ∧ j = s then v else 0
/-- which pages hold it behind write and mix -/
def zs_A : Option Nat → Option Nat → Option Nat → Option Nat → Nat → Bool
  | some k, some l, some _, some _ => fun n => if k = l then false else n == k || n == l
  | some k, none, some _, some _ => fun n => n == k
  | _, _, _, _ => fun _ => false
/-- behind drop -/
def zs_B (A : Nat → Bool) (P : Option Nat) (n : Nat) : Bool := if P = some n then false else A n
/-- the blank pages -/
def zs_Z (A : Nat → Bool) (v : Int32) (n : Nat) : Bool := !(A n) || decide (v = 0)
theorem zs_m2 (b : Int32) (P Q I B : Option Nat) (k' j : Nat) : zs_M (zs_A P Q I B) (I.getD 0) b k' j = zs_mx (zs_wr (fun _ _ => 0) b P I B) Q P k' j := by
  rcases P with _ | k <;> rcases Q with _ | l <;> rcases I with _ | s <;> rcases B with _ | t <;> simp only [zs_M, zs_A, zs_mx, zs_wr, Option.getD]
  all_goals try (simp; done)
  by_cases e : k = l
  · subst e
    by_cases e1 : k' = k
    · subst e1
      simp
    · simp [e1]
  · by_cases e1 : k' = l
    · subst e1
      have e' : ¬ k' = k := fun q => e q.symm
      simp [e, e']
    · simp [e, e1]
theorem zs_m3 (A : Nat → Bool) (s : Nat) (v : Int32) (P : Option Nat) (k' j : Nat) : zs_M (zs_B A P) s v k' j = zs_dr (zs_M A s v) P k' j := by
  cases P with
  | none => rfl
  | some k =>
    by_cases e : k' = k
    · subst e
      simp [zs_M, zs_B, zs_dr]
    · have e' : ¬ k = k' := fun q => e q.symm
      simp [zs_M, zs_B, zs_dr, e, e']
theorem zs_df_eq (P Q I B : Option Nat) {k l : Nat} (hP : P = some k) (hQ : Q = some l) : zs_A P Q I B k = zs_A P Q I B l := by
  subst hP hQ
  rcases I with _ | s <;> rcases B with _ | t <;> simp [zs_A]
theorem zs_hZ {A : Nat → Bool} {s : Nat} {v : Int32} (hs : s < 16) (k : Nat) : zs_Z A v k = true ↔ ∀ j, j < 16 → zs_M A s v k j = 0 := by
  constructor
  · intro h j hj
    unfold zs_M
    by_cases e : A k = true ∧ j = s
    · rw [if_pos e]
      simp [zs_Z, e.1] at h
      exact h
    · rw [if_neg e]
  · intro h
    have q := h s hs
    unfold zs_M at q
    unfold zs_Z
    by_cases e : A k = true
    · rw [if_pos ⟨e, rfl⟩] at q
      simp [q]
    · simp [e]
theorem zs_cnc {Z Z' : Nat → Bool} {n : Nat} (h : ∀ k, Z k = Z' k) : zs_cn Z n = zs_cn Z' n := by
  have e : Z = Z' := funext h
  rw [e]
theorem zs_c0 : zs_cn (fun _ => true) 12 = 12 := by decide
theorem zs_c1 : ∀ k, k < 12 → zs_cn (fun n => !(n == k)) 12 = 11 := by decide +kernel
theorem zs_c2 : ∀ k, k < 12 → ∀ l, l < 12 → k ≠ l → zs_cn (fun n => !(n == k || n == l)) 12 = 10 := by decide +kernel
/-- what find answers -/
theorem zs_fv {A : Nat → Bool} {s l t : Nat} {b r : Int32} (hs : s < 16) (h : zs_fr (zs_M A s b) b r (some l) (some t)) : r = if b = 0 then 0 else if A l = true then nI s else -4 := by
  by_cases e : b = 0
  · rw [if_pos e]
    have q : ∀ j, zs_M A s b l j = b := by
      intro j
      unfold zs_M
      rw [e]
      exact ite_self _
    rcases h with ⟨n, hn, hr, _, g⟩ | ⟨_, g⟩
    · cases n with
      | zero => exact hr
      | succ n => exact absurd (q 0) (g 0 (by omega))
    · exact absurd (q 0) (g 0 (by omega))
  · rw [if_neg e]
    by_cases a : A l = true
    · rw [if_pos a]
      rcases h with ⟨n, hn, hr, g1, g⟩ | ⟨_, g⟩
      · by_cases en : n = s
        · rw [hr, en]
        · unfold zs_M at g1
          rw [if_neg (fun q => en q.2)] at g1
          exact absurd g1.symm e
      · exact absurd (if_pos ⟨a, rfl⟩) (g s hs)
    · rw [if_neg a]
      rcases h with ⟨n, hn, hr, g1, g⟩ | ⟨hr, _⟩
      · unfold zs_M at g1
        rw [if_neg (fun q => a q.1)] at g1
        exact absurd g1.symm e
      · exact hr
/-- a flag of the law -/
def zs_fl : Option Nat → Int32
  | some _ => 1
  | none => 0
theorem zs_rng {n : Nat} {x N : Int32} {P : Option Nat} {W : Int32 → Prop} (h : zs_ar (n + 1) x P) (hN : N = nI n) (hn : n < 1000) (w : W (zs_fl P)) : (x < 0 → W 0) ∧ (¬ x < 0 → ((N < x → W 0) ∧ (¬ N < x → W 1))) := by
  subst hN
  cases P with
  | none =>
    rcases h with h | h
    · exact br_t h w
    · refine br_c (fun _ => w) (fun _ => br_t ?_ w)
      exact Int32.lt_of_lt_of_le (nI_lt (Nat.lt_succ_self n) (by omega)) h
  | some k =>
    obtain ⟨hk, rfl⟩ := h
    exact br_f (nI_pos (by omega)) (br_f (nI_nlt (by omega) (by omega)) w)
end
section
/-- the law's flags: put, both, copied, full, after -/
def zs_18 (P I B : Option Nat) : Int32 := if zs_fl P = 0 ∨ zs_fl I = 0 ∨ zs_fl B = 0 then 0 else 1
def zs_19 (P Q : Option Nat) : Int32 := if zs_fl P = 0 ∨ zs_fl Q = 0 then 0 else 1
def zs_20 (p q : Int32) (P Q I B : Option Nat) : Int32 := if zs_18 P I B = 0 ∨ zs_fl Q = 0 ∨ p = q then 0 else 1
def zs_21 (p q b : Int32) (P Q I B : Option Nat) : Int32 := if zs_18 P I B = 0 ∨ b = 0 ∨ (¬ zs_fl Q = 0 ∧ p = q) then 0 else if zs_20 p q P Q I B = 0 then 1 else 2
def zs_22 (p q b : Int32) (P Q I B : Option Nat) : Int32 := if zs_20 p q P Q I B = 0 ∨ b = 0 then 0 else 1
theorem zs_181 (k s t : Nat) : zs_18 (some k) (some s) (some t) = 1 := rfl
theorem zs_gd {i : Int32} {I : Option Nat} (h : zs_ar 16 i I) : I.getD 0 < 16 := by
  cases I with
  | none => exact (by omega : 0 < 16)
  | some s => exact h.1
theorem zs_ne {k l : Nat} (hk : k < 12) (hl : l < 12) (e : ¬ k = l) : ¬ nI k = nI l := fun q => e (zs_inj hk hl rfl q)
theorem zs_L20 {p q : Int32} {P Q I B : Option Nat} (hp : zs_ar 12 p P) (hq : zs_ar 12 q Q) (l : Nat) (hQ : Q = some l) : zs_A P Q I B l = true ↔ ¬ zs_20 p q P Q I B = 0 := by
  subst hQ
  obtain ⟨hl, rfl⟩ := hq
  rcases P with _ | k <;> rcases I with _ | s <;> rcases B with _ | t
  case some.some.some =>
    obtain ⟨hk, rfl⟩ := hp
    by_cases e : k = l
    · subst e
      simp [zs_A, zs_20]
    · have e' := zs_ne hk hl e
      simp [zs_A, zs_20, zs_181, e, e', zs_fl]
  all_goals simp [zs_A, zs_20, zs_18, zs_fl]
theorem zs_BA {P Q I B : Option Nat} (l : Nat) (hQ : Q = some l) : zs_B (zs_A P Q I B) P l = zs_A P Q I B l := by
  subst hQ
  unfold zs_B
  by_cases e : P = some l
  · subst e
    rw [if_pos rfl]
    rcases I with _ | s <;> rcases B with _ | t <;> simp [zs_A]
  · rw [if_neg e]
theorem zs_all {Z : Nat → Bool} (h : ∀ n, Z n = true) : nI (zs_cn Z 12) = 12 := by
  rw [zs_cnc (Z' := fun _ => true) h, zs_c0]
  rfl
theorem zs_n1 {p q b : Int32} {P Q I B : Option Nat} (hp : zs_ar 12 p P) (hq : zs_ar 12 q Q) : nI (zs_cn (zs_Z (zs_A P Q I B) b) 12) = 12 - zs_21 p q b P Q I B := by
  by_cases eb : b = 0
  · rw [zs_all (fun n => by simp [zs_Z, eb])]
    simp [zs_21, eb]
  · have db : decide (b = 0) = false := decide_eq_false eb
    rcases P with _ | k <;> rcases Q with _ | l <;> rcases I with _ | s <;> rcases B with _ | t
    case some.some.some.some =>
      obtain ⟨hk, rfl⟩ := hp
      obtain ⟨hl, rfl⟩ := hq
      by_cases e : k = l
      · subst e
        rw [zs_all (fun n => by simp [zs_Z, zs_A])]
        simp [zs_21, zs_fl]
      · have e' := zs_ne hk hl e
        rw [zs_cnc (Z' := fun n => !(n == k || n == l)) (fun n => by simp only [zs_Z, zs_A, db, if_neg e, Bool.or_false]), zs_c2 k hk l hl e]
        simp only [zs_21, zs_20, zs_181, zs_fl, e', eb]
        decide
    case some.none.some.some =>
      obtain ⟨hk, rfl⟩ := hp
      rw [zs_cnc (Z' := fun n => !(n == k)) (fun n => by simp only [zs_Z, zs_A, db, Bool.or_false]), zs_c1 k hk]
      have e21 : zs_21 (nI k) q b (some k) none (some s) (some t) = 1 := by simp [zs_21, zs_20, zs_181, zs_fl, eb]
      rw [e21]
      rfl
    all_goals
      rw [zs_all (fun n => by simp [zs_Z, zs_A])]
      simp [zs_21, zs_18, zs_fl]
theorem zs_n2 {p q b : Int32} {P Q I B : Option Nat} (hp : zs_ar 12 p P) (hq : zs_ar 12 q Q) : nI (zs_cn (zs_Z (zs_B (zs_A P Q I B) P) b) 12) = 12 - zs_22 p q b P Q I B := by
  by_cases eb : b = 0
  · rw [zs_all (fun n => by simp [zs_Z, eb])]
    simp [zs_22, eb]
  · have db : decide (b = 0) = false := decide_eq_false eb
    rcases P with _ | k <;> rcases Q with _ | l <;> rcases I with _ | s <;> rcases B with _ | t
    case some.some.some.some =>
      obtain ⟨hk, rfl⟩ := hp
      obtain ⟨hl, rfl⟩ := hq
      by_cases e : k = l
      · subst e
        rw [zs_all (fun n => by simp [zs_Z, zs_A, zs_B])]
        simp [zs_22, zs_20, zs_fl]
      · have e' := zs_ne hk hl e
        have z : ∀ n, zs_Z (zs_B (zs_A (some k) (some l) (some s) (some t)) (some k)) b n = !(n == l) := by
          intro n
          by_cases en : n = k
          · subst en
            simp [zs_Z, zs_B, e]
          · have en' : ¬ k = n := fun w => en w.symm
            simp [zs_Z, zs_B, zs_A, e, eb, en, en']
        rw [zs_cnc (Z' := fun n => !(n == l)) z, zs_c1 l hl]
        simp only [zs_22, zs_20, zs_181, zs_fl, e', eb]
        decide
    case some.none.some.some =>
      rw [zs_all (fun n => ?_)]
      · simp [zs_22, zs_20, zs_fl]
      · by_cases en : k = n
        · simp [zs_Z, zs_B, en]
        · have en' : ¬ n = k := fun w => en w.symm
          simp [zs_Z, zs_B, zs_A, en']
    all_goals
      rw [zs_all (fun n => by simp [zs_Z, zs_A, zs_B])]
      simp [zs_22, zs_20, zs_18, zs_fl]
/-- what read answers -/
theorem zs_rv {A : Nat → Bool} {b x20 : Int32} {Q I : Option Nat} (h : ∀ l, Q = some l → (A l = true ↔ ¬ x20 = 0)) : zs_rd (zs_M A (I.getD 0) b) Q I = if zs_fl Q = 0 ∨ zs_fl I = 0 then -1 else if x20 = 0 then 0 else b := by
  rcases Q with _ | l
  · rfl
  · rcases I with _ | s
    · rfl
    · show (if A l = true ∧ s = s then b else 0) = if x20 = 0 then 0 else b
      by_cases e : x20 = 0
      · rw [if_pos e, if_neg (fun w => (h l rfl).mp w.1 e)]
      · rw [if_neg e, if_pos ⟨(h l rfl).mpr e, rfl⟩]
end
section
theorem zs_chk {post : Int32 → St0 → Prop} {mc ms kc ks : Nat} {p q i b r98 r143 r188 r189 r234 r279 r324 r369 r370 : Int32} {P Q I B : Option Nat} (hpost : post 1 ())
    (hp : zs_ar 12 p P) (hq : zs_ar 12 q Q) (hi : zs_ar 16 i I) (hb : zs_ar 256 b B)
    (e98 : r98 = zs_ok Q P) (e143 : r143 = zs_rd (zs_M (zs_A P Q I B) (I.getD 0) b) Q I) (e188 : r188 = nI (zs_cn (zs_Z (zs_A P Q I B) b) 12)) (e189 : r189 = zs_df P Q)
    (e234 : zs_fr (zs_M (zs_A P Q I B) (I.getD 0) b) b r234 Q B) (e279 : r279 = zs_o1 P) (e324 : r324 = zs_rd (zs_M (zs_B (zs_A P Q I B) P) (I.getD 0) b) Q I)
    (e369 : r369 = nI (zs_cn (zs_Z (zs_B (zs_A P Q I B) P) b) 12)) (e370 : r370 = zs_ok P Q) :
    wL_lawOf_162 post mc ms p q i b r98 r143 r188 r189 r234 r279 r324 r369 r370 (zs_fl P) (zs_fl Q) (zs_fl I) (zs_fl B) kc ks := by
  have L := fun l hQ => zs_L20 (I := I) (B := B) hp hq l hQ
  refine zs_162 (x18 := zs_18 P I B) (x19 := zs_19 P Q) (x20 := zs_20 p q P Q I B) (x21 := zs_21 p q b P Q I B) (x22 := zs_22 p q b P Q I B) hpost rfl rfl rfl rfl rfl ?_ (e143.trans (zs_rv L)) (e188.trans (zs_n1 hp hq)) ?_ ?_ ?_ (e324.trans (zs_rv (fun l hQ => by rw [zs_BA l hQ]; exact L l hQ))) (e369.trans (zs_n2 hp hq)) ?_
  · rw [e98]
    rcases P with _ | k <;> rcases Q with _ | l <;> rfl
  · rw [e189]
    rcases P with _ | k <;> rcases Q with _ | l <;> rfl
  · rcases Q with _ | l
    · exact e234
    · rcases B with _ | t
      · exact e234
      · have g := zs_fv (zs_gd hi) e234
        rw [g]
        show _ = if b = 0 then 0 else if zs_20 p q P (some l) I (some t) = 0 then -4 else i
        by_cases eb : b = 0
        · rw [if_pos eb, if_pos eb]
        · rw [if_neg eb, if_neg eb]
          by_cases e : zs_20 p q P (some l) I (some t) = 0
          · rw [if_pos e, if_neg (fun w => (L l rfl).mp w e)]
          · rw [if_neg e, if_pos ((L l rfl).mpr e)]
            rcases I with _ | s
            · rcases P with _ | k <;> exact absurd rfl e
            · exact hi.2.symm
  · rw [e279]
    rcases P with _ | k <;> rfl
  · rw [e370]
    rcases P with _ | k <;> rcases Q with _ | l <;> rfl
theorem zs_cell {post : Int32 → Prop} {L : Nat} {xs : Nat → Int32} (j : Nat) (hj : j < 4) (hL : L ≤ 4) (H : ∀ r, post r) : wpL_cellAt post L xs () (nI j) :=
  pk_le L j (fun _ => H _) (fun h => ⟨pk_in j L h, H _⟩)
theorem zs_lawOf (p q i b : Int32) : wpL_lawOf (fun r _ => r = 1) 250 4000 () p q i b := by
  obtain ⟨P, hp⟩ := zs_get 12 (by decide) p
  obtain ⟨Q, hq⟩ := zs_get 12 (by decide) q
  obtain ⟨I, hi⟩ := zs_get 16 (by decide) i
  obtain ⟨B, hb⟩ := zs_get 256 (by decide) b
  have hs := zs_gd hi
  have hx : ∀ k, P = some k → k = P.getD 0 ∨ k = Q.getD 0 := fun k e => Or.inl (by rw [e]; rfl)
  have hy : ∀ k, Q = some k → k = P.getD 0 ∨ k = Q.getD 0 := fun k e => Or.inr (by rw [e]; rfl)
  unfold wpL_lawOf
  refine ⟨by decide, by decide, 100, 1000, by decide, by decide, ?_⟩
  refine zs_init (x := P.getD 0) (y := Q.getD 0) (by decide) (by decide) (fun u hu => ?_)
  obtain ⟨c, z, a1, a2, a3, a4, a5, a6, a7, a8, a9, a10, a11, a12, a13, a14⟩ := u
  refine zs_write hp hi hb hu hx (fun r53 u hu => ?_)
  obtain ⟨c, z, a1, a2, a3, a4, a5, a6, a7, a8, a9, a10, a11, a12, a13, a14⟩ := u
  refine zs_mix hp hq hu hx hy (fun u hu => ?_)
  obtain ⟨c, z, a1, a2, a3, a4, a5, a6, a7, a8, a9, a10, a11, a12, a13, a14⟩ := u
  have hu : zs_S (P.getD 0) (Q.getD 0) (zs_M (zs_A P Q I B) (I.getD 0) b) (c, z, a1, a2, a3, a4, a5, a6, a7, a8, a9, a10, a11, a12, a13, a14) := zs_ext hu (fun k j _ _ => zs_m2 b P Q I B k j)
  refine zs_read hq hi hu hy (fun u hu => ?_)
  obtain ⟨c, z, a1, a2, a3, a4, a5, a6, a7, a8, a9, a10, a11, a12, a13, a14⟩ := u
  refine zs_blank _ hu (fun k _ => zs_hZ hs k) ?_
  refine zs_differ hp hq hu hx hy (fun k l e e' j _ => by unfold zs_M; rw [zs_df_eq P Q I B e e']) (fun u hu => ?_)
  obtain ⟨c, z, a1, a2, a3, a4, a5, a6, a7, a8, a9, a10, a11, a12, a13, a14⟩ := u
  refine zs_find hq hb hu hy (fun r234 u hu hf => ?_)
  obtain ⟨c, z, a1, a2, a3, a4, a5, a6, a7, a8, a9, a10, a11, a12, a13, a14⟩ := u
  refine zs_drop hp hu (fun u hu => ?_)
  obtain ⟨c, z, a1, a2, a3, a4, a5, a6, a7, a8, a9, a10, a11, a12, a13, a14⟩ := u
  have hu : zs_S (P.getD 0) (Q.getD 0) (zs_M (zs_B (zs_A P Q I B) P) (I.getD 0) b) (c, z, a1, a2, a3, a4, a5, a6, a7, a8, a9, a10, a11, a12, a13, a14) := zs_ext hu (fun k j _ _ => zs_m3 _ _ b P k j)
  refine zs_read hq hi hu hy (fun u hu => ?_)
  obtain ⟨c, z, a1, a2, a3, a4, a5, a6, a7, a8, a9, a10, a11, a12, a13, a14⟩ := u
  refine zs_blank _ hu (fun k _ => zs_hZ hs k) ?_
  refine zs_exchange hp hq hu (fun u => ?_)
  obtain ⟨c, z, a1, a2, a3, a4, a5, a6, a7, a8, a9, a10, a11, a12, a13, a14⟩ := u
  refine zs_rng (n := 11) (W := fun w => wL_lawOf_110 _ _ _ _ _ _ _ _ _ _ _ _ _ _ _ _ w _ _) hp rfl (by decide) ?_
  refine zs_rng (n := 11) (W := fun w => wL_lawOf_127 _ _ _ _ _ _ _ _ _ _ _ _ _ _ _ _ _ w _ _) hq rfl (by decide) ?_
  refine zs_rng (n := 15) (W := fun w => wL_lawOf_144 _ _ _ _ _ _ _ _ _ _ _ _ _ _ _ _ _ _ w _ _) hi rfl (by decide) ?_
  refine zs_rng (n := 255) (W := fun w => wL_lawOf_162 _ _ _ _ _ _ _ _ _ _ _ _ _ _ _ _ _ _ _ w _ _) hb rfl (by decide) ?_
  exact zs_chk rfl hp hq hi hb rfl rfl rfl rfl hf rfl rfl rfl rfl
theorem i_vc (xs : Nat → Int32) (L : Nat) (hL : L ≤ 4) : wpL_law (fun r => r = 1) L xs := by
  unfold wpL_law
  refine zs_cell 0 (by decide) hL (fun r1 => ?_)
  refine zs_cell 1 (by decide) hL (fun r2 => ?_)
  refine zs_cell 2 (by decide) hL (fun r3 => ?_)
  refine zs_cell 3 (by decide) hL (fun r4 => ?_)
  exact ⟨250, 4000, by decide, by decide, zs_lawOf r1 r2 r3 r4⟩
end
