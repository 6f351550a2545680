section
section
variable {df dl c st pl sc te co : Int32} {a1 a2 a3 a4 a5 a6 a7 a8 a9 a10 a11 a12 a13 a14 a15 a16 a17 a18 a19 a20 a21 a22 a23 : Nat → Int32}
/-- the rules that number k has: one rule from f to l if m is 1, none if m is 0 -/
def sf_h (m f l k : Nat) : Int32 := if m = 1 ∧ f ≤ k ∧ k ≤ l then 1 else 0
theorem sf_h0 {m f l k : Nat} (h : ¬ (m = 1 ∧ f ≤ k ∧ k ≤ l)) : sf_h m f l k = 0 := if_neg h
theorem sf_h1 {m f l k : Nat} (h : m = 1 ∧ f ≤ k ∧ k ≤ l) : sf_h m f l k = 1 := if_pos h
theorem sf_h01 (m f l k : Nat) : (sf_h m f l k = 0 ∧ ¬ (m = 1 ∧ f ≤ k ∧ k ≤ l)) ∨ (sf_h m f l k = 1 ∧ m = 1 ∧ f ≤ k ∧ k ≤ l) := by
  by_cases h : m = 1 ∧ f ≤ k ∧ k ≤ l
  · exact Or.inr ⟨sf_h1 h, h⟩
  · exact Or.inl ⟨sf_h0 h, h⟩
theorem sf_st (a : Nat → Int32) {k : Nat} (v : Int32) (h : k < 2 ^ 31) : upd a (nI k).toNatClampNeg v = upd a k v := by rw [nI_clamp h]
theorem sf_p {k : Nat} (h : 0 < k) : nI k - 1 = nI (k - 1) := by
  obtain ⟨j, rfl⟩ : ∃ j, k = j + 1 := ⟨k - 1, by omega⟩
  exact nI_pred j
/-- n stretches over the 32 numbers, stretch i begins at b i -/
def sf_B (h : Nat → Int32) (n : Nat) (b : Nat → Nat) : Prop := b 0 = 0 ∧ b n = 32 ∧ (∀ i, i < n → b i < b (i + 1)) ∧ (∀ i, i ≤ n → b i ≤ 32) ∧ (∀ i, i < n → ∀ j, b i ≤ j → j < b (i + 1) → h j = h (b i)) ∧ (∀ i, 0 < i → i < n → ¬ h (b i) = h (b i - 1))
theorem sf_shape {m f l : Nat} (hf : f ≤ l) (hl : l < 32) : ∃ n b, 1 ≤ n ∧ n ≤ 3 ∧ sf_B (sf_h m f l) n b := by
  by_cases hm : m = 1
  · by_cases f0 : f = 0
    · by_cases l0 : l = 31
      · refine ⟨1, fun i => if i = 0 then 0 else 32, by omega, by omega, rfl, rfl, fun i hi => ?_, fun i hi => ?_, fun i hi j h1 h2 => ?_, fun i h0 hi => ?_⟩
        · dsimp only; split <;> split <;> omega
        · dsimp only; split <;> omega
        · have : i = 0 := by omega
          subst this
          have h2' : j < 32 := h2
          rw [sf_h1 (k := j) ⟨hm, by omega, by omega⟩]
          exact (sf_h1 ⟨hm, by omega, by omega⟩).symm
        · omega
      · refine ⟨2, fun i => if i = 0 then 0 else if i = 1 then l + 1 else 32, by omega, by omega, rfl, rfl, fun i hi => ?_, fun i hi => ?_, fun i hi j h1 h2 => ?_, fun i h0 hi => ?_⟩
        · have : i = 0 ∨ i = 1 := by omega
          rcases this with rfl | rfl
          · show 0 < l + 1; omega
          · show l + 1 < 32; omega
        · dsimp only; split
          · omega
          · split <;> omega
        · have : i = 0 ∨ i = 1 := by omega
          rcases this with rfl | rfl
          · have h2' : j < l + 1 := h2
            show sf_h m f l j = sf_h m f l 0
            rw [sf_h1 ⟨hm, by omega, by omega⟩, sf_h1 ⟨hm, by omega, by omega⟩]
          · have h1' : l + 1 ≤ j := h1
            show sf_h m f l j = sf_h m f l (l + 1)
            rw [sf_h0 (by omega), sf_h0 (by omega)]
        · have : i = 1 := by omega
          subst this
          show ¬ sf_h m f l (l + 1) = sf_h m f l (l + 1 - 1)
          rw [sf_h0 (by omega), sf_h1 ⟨hm, by omega, by omega⟩]
          decide
    · by_cases l0 : l = 31
      · refine ⟨2, fun i => if i = 0 then 0 else if i = 1 then f else 32, by omega, by omega, rfl, rfl, fun i hi => ?_, fun i hi => ?_, fun i hi j h1 h2 => ?_, fun i h0 hi => ?_⟩
        · have : i = 0 ∨ i = 1 := by omega
          rcases this with rfl | rfl
          · show 0 < f; omega
          · show f < 32; omega
        · dsimp only; split
          · omega
          · split <;> omega
        · have : i = 0 ∨ i = 1 := by omega
          rcases this with rfl | rfl
          · have h2' : j < f := h2
            show sf_h m f l j = sf_h m f l 0
            rw [sf_h0 (by omega), sf_h0 (by omega)]
          · have h1' : f ≤ j := h1
            have h2' : j < 32 := h2
            show sf_h m f l j = sf_h m f l f
            rw [sf_h1 ⟨hm, by omega, by omega⟩, sf_h1 ⟨hm, by omega, by omega⟩]
        · have : i = 1 := by omega
          subst this
          show ¬ sf_h m f l f = sf_h m f l (f - 1)
          rw [sf_h1 ⟨hm, by omega, by omega⟩, sf_h0 (by omega)]
          decide
      · refine ⟨3, fun i => if i = 0 then 0 else if i = 1 then f else if i = 2 then l + 1 else 32, by omega, by omega, rfl, rfl, fun i hi => ?_, fun i hi => ?_, fun i hi j h1 h2 => ?_, fun i h0 hi => ?_⟩
        · have : i = 0 ∨ i = 1 ∨ i = 2 := by omega
          rcases this with rfl | rfl | rfl
          · show 0 < f; omega
          · show f < l + 1; omega
          · show l + 1 < 32; omega
        · dsimp only; split
          · omega
          · split
            · omega
            · split <;> omega
        · have : i = 0 ∨ i = 1 ∨ i = 2 := by omega
          rcases this with rfl | rfl | rfl
          · have h2' : j < f := h2
            show sf_h m f l j = sf_h m f l 0
            rw [sf_h0 (by omega), sf_h0 (by omega)]
          · have h1' : f ≤ j := h1
            have h2' : j < l + 1 := h2
            show sf_h m f l j = sf_h m f l f
            rw [sf_h1 ⟨hm, by omega, by omega⟩, sf_h1 ⟨hm, by omega, by omega⟩]
          · have h1' : l + 1 ≤ j := h1
            show sf_h m f l j = sf_h m f l (l + 1)
            rw [sf_h0 (by omega), sf_h0 (by omega)]
        · have : i = 1 ∨ i = 2 := by omega
          rcases this with rfl | rfl
          · show ¬ sf_h m f l f = sf_h m f l (f - 1)
            rw [sf_h1 ⟨hm, by omega, by omega⟩, sf_h0 (by omega)]
            decide
          · show ¬ sf_h m f l (l + 1) = sf_h m f l (l + 1 - 1)
            rw [sf_h0 (by omega), sf_h1 ⟨hm, by omega, by omega⟩]
            decide
  · refine ⟨1, fun i => if i = 0 then 0 else 32, by omega, by omega, rfl, rfl, fun i hi => ?_, fun i hi => ?_, fun i hi j h1 h2 => ?_, fun i h0 hi => ?_⟩
    · dsimp only; split <;> split <;> omega
    · dsimp only; split <;> omega
    · rw [sf_h0 (fun z => hm z.1), sf_h0 (fun z => hm z.1)]
    · omega
theorem sf_norm {post : St2 → Prop} {x : Int32} {p : Nat} (hx : x = nI p) (hp : p < 24) (h0 : a3 p = 0) (H : ∀ b7 b8 b9, post (df, dl, c, st, pl, sc, te, co, a1, a2, a3, a4, a5, a6, b7, b8, b9, a10, a11, a12, a13, a14, a15, a16, a17, a18, a19, a20, a21, a22, a23)) : wpX_normalise post (df, dl, c, st, pl, sc, te, co, a1, a2, a3, a4, a5, a6, a7, a8, a9, a10, a11, a12, a13, a14, a15, a16, a17, a18, a19, a20, a21, a22, a23) x := by
  subst hx
  unfold wpX_normalise
  refine ⟨pk_in p 26 (by omega), nm_r (e' := 0) (by rw [nI_clamp (by omega), h0]; rfl) ⟨pk_in p 26 (by omega), nm_e ⟨pk_in p 24 hp, nm_e ⟨pk_in p 24 hp, nm_e (br_f (by decide) ?_)⟩⟩⟩⟩
  exact ⟨pk_in p 24 hp, nm_e (br_f (by decide) (br_f (by decide) (br_f (by decide) (br_f (by decide) (br_f (by decide) (br_f (by decide) (H _ _ _)))))))⟩
theorem sf_c17 {post : St2 → Prop} {J2 : Int32 → (Nat → Int32) → (Nat → Int32) → (Nat → Int32) → (Nat → Int32) → (Nat → Int32) → (Nat → Int32) → (Nat → Int32) → (Nat → Int32) → (Nat → Int32) → (Nat → Int32) → (Nat → Int32) → (Nat → Int32) → (Nat → Int32) → (Nat → Int32) → (Nat → Int32) → (Nat → Int32) → (Nat → Int32) → (Nat → Int32) → (Nat → Int32) → (Nat → Int32) → (Nat → Int32) → (Nat → Int32) → (Nat → Int32) → Prop} {m f l k : Nat} (hm : m ≤ 1) (hk : k < 32) (hf : f ≤ l) (hl : l < 32) (r : m = 1 → a1 0 = nI f ∧ a2 0 = nI l) (h0 : a10 k = 0)
    (H : ∀ b, (∀ j, j < k → b j = a10 j) → b k = sf_h m f l k → J2 (nI (k + 1)) a1 a2 a3 a4 a5 a6 a7 a8 a9 b a11 a12 a13 a14 a15 a16 a17 a18 a19 a20 a21 a22 a23) : ∃ n, wX_cutStretches_17 post J2 (nI k) df dl (nI m) st pl sc te co n 0 a1 a2 a3 a4 a5 a6 a7 a8 a9 a10 a11 a12 a13 a14 a15 a16 a17 a18 a19 a20 a21 a22 a23 := by
  by_cases h1 : m = 1
  · subst h1
    obtain ⟨r1, r2⟩ := r rfl
    have fin : ∀ b, (∀ j, j < k → b j = a10 j) → b k = sf_h 1 f l k → wX_cutStretches_17 post J2 (nI k) df dl (nI 1) st pl sc te co 1 (nI 1) a1 a2 a3 a4 a5 a6 a7 a8 a9 b a11 a12 a13 a14 a15 a16 a17 a18 a19 a20 a21 a22 a23 :=
      fun b hb hk' => br_t (by decide) (nm_r (nI_1 k) (H b hb hk'))
    refine ⟨2, br_f (by decide) ⟨pk_in 0 13 (by omega), ?_⟩⟩
    refine pk_lt k f (fun z => nm_r (e' := nI 1) rfl (fin a10 (fun _ _ => rfl) (by rw [h0, sf_h0 (by omega)]))) (fun z => ⟨pk_in 0 13 (by omega), ?_⟩) (hy := r1)
    refine pk_lt l k (fun z2 => nm_r (e' := nI 1) rfl (fin a10 (fun _ _ => rfl) (by rw [h0, sf_h0 (by omega)]))) (fun z2 => ⟨pk_in k 32 hk, pk_in k 32 hk, ?_⟩) (hx := r2)
    refine nm_r (e' := upd a10 k 1) (by rw [nI_clamp (by omega), h0]; rfl) (nm_r (e' := nI 1) rfl (fin _ (fun j hj => pk_un (by omega)) (by rw [pk_us, sf_h1 ⟨rfl, z, z2⟩])))
  · have h2 : m = 0 := by omega
    subst h2
    exact ⟨1, br_t (by decide) (nm_r (nI_1 k) (H a10 (fun _ _ => rfl) (by rw [h0, sf_h0 (by omega)])))⟩
theorem sf_c2 {post : St2 → Prop} {m f l : Nat} (hm : m ≤ 1) (hf : f ≤ l) (hl : l < 32) (r : m = 1 → a1 0 = nI f ∧ a2 0 = nI l)
    (H : ∀ b, (∀ j, j < 32 → b j = sf_h m f l j) → ∃ n, wX_cutStretches_80 post df dl (nI m) st pl te co n 0 0 a1 a2 a3 a4 a5 a6 a7 a8 a9 b a11 a12 a13 a14 a15 a16 a17 a18 a19 a20 a21 a22 a23) : ∃ n, wX_cutStretches_2 post df dl (nI m) st pl sc te co n 0 a1 a2 a3 a4 a5 a6 a7 a8 a9 a10 a11 a12 a13 a14 a15 a16 a17 a18 a19 a20 a21 a22 a23 :=
  pk_loop (fun n i s => wX_cutStretches_2 post df dl (nI m) st pl sc te co n (nI i) a1 a2 a3 a4 a5 a6 a7 a8 a9 s a11 a12 a13 a14 a15 a16 a17 a18 a19 a20 a21 a22 a23) (fun i s => ∀ j, j < i → s j = sf_h m f l j) 32 0 a10 (by omega) (fun j hj => absurd hj (by omega))
    (fun n s h => pk_le 32 32 (fun _ => H s h) (fun z => absurd z (by omega)))
    (fun n i s hi h hw => pk_le 32 i (fun z => absurd z (by omega)) (fun _ => ⟨pk_in i 32 hi, nm_r (sf_st s 0 (by omega)) (sf_c17 hm hi hf hl r pk_us (fun b hb hb2 => hw b (lt_s (fun j hj => by rw [hb j hj, pk_un (by omega)]; exact h j hj) hb2)))⟩))
theorem sf_skip {post : St2 → Prop} {n : Nat} : ∀ (d k : Nat), 0 < k → k + d ≤ 32 → (∀ j, k ≤ j → j < k + d → a10 j = a10 (j - 1)) → wX_cutStretches_80 post df dl c st pl te co n (nI (k + d)) sc a1 a2 a3 a4 a5 a6 a7 a8 a9 a10 a11 a12 a13 a14 a15 a16 a17 a18 a19 a20 a21 a22 a23 → wX_cutStretches_80 post df dl c st pl te co (n + d) (nI k) sc a1 a2 a3 a4 a5 a6 a7 a8 a9 a10 a11 a12 a13 a14 a15 a16 a17 a18 a19 a20 a21 a22 a23 := by
  intro d
  induction d with
  | zero => intro k _ _ _ h; exact h
  | succ d ih =>
    intro k h0 hk he h
    have t : wX_cutStretches_80 post df dl c st pl te co (n + d) (nI (k + 1)) sc a1 a2 a3 a4 a5 a6 a7 a8 a9 a10 a11 a12 a13 a14 a15 a16 a17 a18 a19 a20 a21 a22 a23 := ih (k + 1) (by omega) (by omega) (fun j h1 h2 => he j (by omega) (by omega)) (by rw [show k + 1 + d = k + (d + 1) by omega]; exact h)
    exact pk_le 32 k (fun z => absurd z (by omega)) (fun _ => pk_eq k 0 (fun z => absurd z (by omega)) (fun _ => ⟨pk_in k 32 (by omega), pk_in (k - 1) 32 (by omega) (sf_p h0), br_t (by rw [sf_p h0, nI_clamp (by omega), nI_clamp (by omega)]; exact he k (by omega) (by omega)) (nm_r (nI_1 k) t)⟩))
theorem sf_c80 {post : St2 → Prop} {h : Nat → Int32} {n : Nat} {b : Nat → Nat} (B : sf_B h n b) (hn : n ≤ 32) (ha : ∀ j, j < 32 → a10 j = h j) (H : ∀ e, (∀ j, j ≤ n → e j = nI (b j)) → post (df, dl, c, st, pl, nI n, te, co, a1, a2, a3, a4, a5, a6, a7, a8, a9, a10, e, a12, a13, a14, a15, a16, a17, a18, a19, a20, a21, a22, a23)) :
    ∀ (d i : Nat) (e : Nat → Int32), i + d = n → (∀ j, j < i → e j = nI (b j)) → ∃ fu, wX_cutStretches_80 post df dl c st pl te co fu (nI (b i)) (nI i) a1 a2 a3 a4 a5 a6 a7 a8 a9 a10 e a12 a13 a14 a15 a16 a17 a18 a19 a20 a21 a22 a23 := by
  obtain ⟨b0, bn, bs, bl, bc, bd⟩ := B
  intro d
  induction d with
  | zero =>
    intro i e hi he
    have hi' : i = n := by omega
    subst hi'
    rw [bn]
    refine ⟨1, br_t (by decide) ⟨pk_in i 33 (by omega), nm_r (sf_st e 32 (by omega)) (H _ (fun j hj => ?_))⟩⟩
    by_cases ej : j = i
    · rw [ej, pk_us, bn]; rfl
    · rw [pk_un ej]; exact he j (by omega)
  | succ d ih =>
    intro i e hi he
    have hin : i < n := by omega
    have s1 := bs i hin
    have s2 := bl (i + 1) (by omega)
    obtain ⟨fu, hfu⟩ := ih (i + 1) (upd e i (nI (b i))) (by omega) (fun j hj => by
      by_cases ej : j = i
      · rw [ej, pk_us]
      · rw [pk_un ej]; exact he j (by omega))
    have hfu' : wX_cutStretches_80 post df dl c st pl te co fu (nI (b i + 1 + (b (i + 1) - (b i + 1)))) (nI (i + 1)) a1 a2 a3 a4 a5 a6 a7 a8 a9 a10 (upd e i (nI (b i))) a12 a13 a14 a15 a16 a17 a18 a19 a20 a21 a22 a23 := by
      rw [show b i + 1 + (b (i + 1) - (b i + 1)) = b (i + 1) by omega]
      exact hfu
    have sk := sf_skip (a11 := upd e i (nI (b i))) (b (i + 1) - (b i + 1)) (b i + 1) (by omega) (by omega) (fun j h1 h2 => by
      rw [ha j (by omega), ha (j - 1) (by omega), bc i hin j (by omega) (by omega), bc i hin (j - 1) (by omega) (by omega)]) hfu'
    have c107 : wX_cutStretches_107 post (wX_cutStretches_80 post df dl c st pl te co (fu + (b (i + 1) - (b i + 1)))) (nI (b i)) df dl c st pl (nI i) te co a1 a2 a3 a4 a5 a6 a7 a8 a9 a10 e a12 a13 a14 a15 a16 a17 a18 a19 a20 a21 a22 a23 :=
      ⟨pk_in i 33 (by omega), nm_r (sf_st e (nI (b i)) (by omega)) (nm_r (nI_1 i) (nm_r (nI_1 (b i)) sk))⟩
    refine ⟨fu + (b (i + 1) - (b i + 1)) + 1, pk_le 32 (b i) (fun z => absurd z (by omega)) (fun _ => pk_eq (b i) 0 (fun _ => c107) (fun z => ?_))⟩
    have i0 : 0 < i := by
      rcases Nat.eq_zero_or_pos i with q | q
      · rw [q] at z; exact absurd b0 z
      · exact q
    exact ⟨pk_in (b i) 32 (by omega), pk_in (b i - 1) 32 (by omega) (sf_p (by omega)), br_f (by rw [sf_p (by omega), nI_clamp (by omega), nI_clamp (by omega), ha _ (by omega), ha _ (by omega)]; exact bd i i0 hin) c107⟩
theorem sf_cut {post : St2 → Prop} {m f l n : Nat} {b : Nat → Nat} (hm : m ≤ 1) (hf : f ≤ l) (hl : l < 32) (r : m = 1 → a1 0 = nI f ∧ a2 0 = nI l) (hn : n ≤ 32) (B : sf_B (sf_h m f l) n b)
    (H : ∀ b10 b11, (∀ j, j < 32 → b10 j = sf_h m f l j) → (∀ j, j ≤ n → b11 j = nI (b j)) → post (df, dl, nI m, st, pl, nI n, te, co, a1, a2, a3, a4, a5, a6, a7, a8, a9, b10, b11, a12, a13, a14, a15, a16, a17, a18, a19, a20, a21, a22, a23)) : wpX_cutStretches post (df, dl, nI m, st, pl, sc, te, co, a1, a2, a3, a4, a5, a6, a7, a8, a9, a10, a11, a12, a13, a14, a15, a16, a17, a18, a19, a20, a21, a22, a23) := by
  unfold wpX_cutStretches
  refine sf_c2 hm hf hl r (fun e he => ?_)
  obtain ⟨fu, h⟩ := sf_c80 (post := post) (a10 := e) B hn he (fun e' he' => H e e' he he') n 0 a11 (by omega) (fun j hj => absurd hj (by omega))
  rw [B.1] at h
  exact ⟨fu, h⟩
end
end
section
section
variable {df dl c st pl sc te co : Int32} {a1 a2 a3 a4 a5 a6 a7 a8 a9 a10 a11 a12 a13 a14 a15 a16 a17 a18 a19 a20 a21 a22 a23 : Nat → Int32}
/-- the tests made so far: none, or the one of rule 0 -/
def sf_T (te : Int32) (a13 a14 : Nat → Int32) : Prop := te = 0 ∨ (te = 1 ∧ a13 0 = 0 ∧ a14 0 = -1)
/-- the chains of the first k stretches -/
def sf_K (h : Nat → Int32) (b : Nat → Nat) (k : Nat) (te : Int32) (a12 a13 a14 : Nat → Int32) : Prop := ∀ j, j < k → (h (b j) = 0 ∧ a12 j = -1) ∨ (h (b j) = 1 ∧ a12 j = 0 ∧ te = 1 ∧ a13 0 = 0 ∧ a14 0 = -1)
theorem sf_test0 {post : Int32 → St2 → Prop} (t : sf_T te a13 a14) (H : ∀ v b13 b14, v = 0 → b13 0 = 0 → b14 0 = -1 → post v (df, dl, c, st, pl, sc, 1, co, a1, a2, a3, a4, a5, a6, a7, a8, a9, a10, a11, a12, b13, b14, a15, a16, a17, a18, a19, a20, a21, a22, a23)) : wpX_test post (df, dl, c, st, pl, sc, te, co, a1, a2, a3, a4, a5, a6, a7, a8, a9, a10, a11, a12, a13, a14, a15, a16, a17, a18, a19, a20, a21, a22, a23) 0 (-1) := by
  unfold wpX_test
  rcases t with rfl | ⟨rfl, h13, h14⟩
  · exact ⟨1, br_t (by decide) (br_f (by decide) ⟨pk_in 0 400 (by omega), nm_e ⟨pk_in 0 400 (by omega), nm_e (nm_r (e' := 1) (by decide) (H _ _ _ (by decide) rfl rfl))⟩⟩)⟩
  · exact ⟨1, br_f (by decide) ⟨pk_in 0 400 (by omega), br_t h13 ⟨pk_in 0 400 (by omega), br_t h14 (H _ _ _ rfl h13 h14)⟩⟩⟩
theorem sf_chain0 {post : Int32 → St2 → Prop} {m : Nat} {v : Int32} (hm : m ≤ 1) (hv : v = 0) (H : post (-1) (df, dl, nI m, st, nI m, sc, te, co, a1, a2, a3, a4, a5, a6, a7, a8, a9, a10, a11, a12, a13, a14, a15, a16, a17, a18, a19, a20, a21, a22, a23)) : wpX_buildChain post (df, dl, nI m, st, nI m, sc, te, co, a1, a2, a3, a4, a5, a6, a7, a8, a9, a10, a11, a12, a13, a14, a15, a16, a17, a18, a19, a20, a21, a22, a23) v := by
  subst hv
  unfold wpX_buildChain
  by_cases h1 : m = 1
  · subst h1
    exact nm_r (e' := 0) (by decide) (nm_r (e' := 0) (by decide) (br_t rfl (nm_r (e' := 0) (by decide) ⟨2, br_f (by decide) (br_f (by decide) (nm_r (e' := -1) (by decide) (br_t (by decide) H)))⟩)))
  · have h2 : m = 0 := by omega
    subst h2
    exact nm_r (e' := 0) (by decide) (nm_r (e' := 0) (by decide) (br_t rfl (nm_r (e' := -1) (by decide) ⟨1, br_t (by decide) H⟩)))
theorem sf_chain1 {post : Int32 → St2 → Prop} {m : Nat} {v : Int32} (hm : m = 1) (hv : v = 1) (t : sf_T te a13 a14) (H : ∀ w b13 b14, w = 0 → b13 0 = 0 → b14 0 = -1 → post w (df, dl, nI m, st, nI m, sc, 1, co, a1, a2, a3, a4, a5, a6, a7, a8, a9, a10, a11, a12, b13, b14, a15, a16, a17, a18, a19, a20, a21, a22, a23)) : wpX_buildChain post (df, dl, nI m, st, nI m, sc, te, co, a1, a2, a3, a4, a5, a6, a7, a8, a9, a10, a11, a12, a13, a14, a15, a16, a17, a18, a19, a20, a21, a22, a23) v := by
  subst hv hm
  unfold wpX_buildChain
  exact nm_r (e' := 1) (by decide) (nm_r (e' := 1) (by decide) (br_f (by decide) (nm_r (e' := 0) (by decide) ⟨2, br_f (by decide) (br_t (by decide) (sf_test0 t (fun w b13 b14 hw h13 h14 => nm_r (e' := -1) (by decide) (br_t (by decide) (H w b13 b14 hw h13 h14)))))⟩)))
theorem sf_keep {h : Nat → Int32} {b : Nat → Nat} {k : Nat} {te te' v : Int32} {a12 a13 a14 b13 b14 : Nat → Int32} (K : sf_K h b k te a12 a13 a14) (g : te = 1 → a13 0 = 0 → a14 0 = -1 → te' = 1 ∧ b13 0 = 0 ∧ b14 0 = -1)
    (n : (h (b k) = 0 ∧ v = -1) ∨ (h (b k) = 1 ∧ v = 0 ∧ te' = 1 ∧ b13 0 = 0 ∧ b14 0 = -1)) : sf_K h b (k + 1) te' (upd a12 k v) b13 b14 := by
  intro j hj
  by_cases e : j = k
  · subst e
    rw [pk_us]
    exact n
  · rw [pk_un e]
    rcases K j (by omega) with q | ⟨q1, q2, q3, q4, q5⟩
    · exact Or.inl q
    · exact Or.inr ⟨q1, q2, g q3 q4 q5⟩
/-- the tree over one, two or three stretches -/
def sf_tree (n : Nat) (b : Nat → Nat) (a15 a16 a17 : Nat → Int32) : Prop :=
  (n = 1 ∧ a15 0 = -1 ∧ a16 0 = nI 0) ∨
  (n = 2 ∧ a15 0 = nI (b 1) ∧ a16 0 = nI 1 ∧ a17 0 = nI 2 ∧ a15 1 = -1 ∧ a16 1 = nI 0 ∧ a15 2 = -1 ∧ a16 2 = nI 1) ∨
  (n = 3 ∧ a15 0 = nI (b 1) ∧ a16 0 = nI 1 ∧ a17 0 = nI 2 ∧ a15 1 = -1 ∧ a16 1 = nI 0 ∧ a15 2 = nI (b 2) ∧ a16 2 = nI 3 ∧ a17 2 = nI 4 ∧ a15 3 = -1 ∧ a16 3 = nI 1 ∧ a15 4 = -1 ∧ a16 4 = nI 2)
theorem sf_tend {post : St2 → Prop} {n md nd : Nat} (h : md ≤ nd) (hn : nd < 63) (H : post (df, dl, c, st, pl, sc, te, co, a1, a2, a3, a4, a5, a6, a7, a8, a9, a10, a11, a12, a13, a14, a15, a16, a17, a18, a19, a20, a21, a22, a23)) : wX_buildTree_21 post df dl c st pl sc te co (n + 1) (nI md) (nI nd) a1 a2 a3 a4 a5 a6 a7 a8 a9 a10 a11 a12 a13 a14 a15 a16 a17 a18 a19 a20 a21 a22 a23 :=
  pk_le 63 nd (fun z => absurd z (by omega)) (fun _ => pk_le md nd (fun _ => H) (fun z => absurd z (by omega)))
theorem sf_leaf {post : St2 → Prop} {n md nd p q : Nat} (h : nd < md) (hn : nd < 63) (hm : md ≤ 63) (h18 : a18 nd = nI p) (h19 : a19 nd = nI q) (hp : p ≤ q) (hq : q < p + 2) (hq2 : q ≤ 32)
    (H : wX_buildTree_21 post df dl c st pl sc te co n (nI md) (nI (nd + 1)) a1 a2 a3 a4 a5 a6 a7 a8 a9 a10 a11 a12 a13 a14 (upd a15 nd (-1)) (upd a16 nd (nI p)) a17 a18 a19 a20 a21 a22 a23) : wX_buildTree_21 post df dl c st pl sc te co (n + 1) (nI md) (nI nd) a1 a2 a3 a4 a5 a6 a7 a8 a9 a10 a11 a12 a13 a14 a15 a16 a17 a18 a19 a20 a21 a22 a23 := by
  refine pk_le 63 nd (fun z => absurd z (by omega)) (fun _ => pk_le md nd (fun z => absurd z (by omega)) (fun _ => ⟨pk_in nd 64 (by omega), nm_r (e' := nI p) (by rw [nI_clamp (by omega)]; exact h18) ⟨pk_in nd 64 (by omega), nm_r (e' := nI q) (by rw [nI_clamp (by omega)]; exact h19) ?_⟩⟩))
  refine pk_lt (q - p) 2 (fun _ => ⟨pk_in nd 64 (by omega), nm_r (sf_st a15 (-1) (by omega)) ⟨pk_in nd 64 (by omega), nm_r (sf_st a16 (nI p) (by omega)) (nm_r (nI_1 nd) H)⟩⟩) (fun z => absurd z (by omega)) (hx := pk_sub hp)
theorem sf_inner {post : St2 → Prop} {n md nd p q r v : Nat} (h : nd < md) (hn : nd < 63) (hm : md ≤ 62) (h18 : a18 nd = nI p) (h19 : a19 nd = nI q) (hp : p + 2 ≤ q) (hq2 : q ≤ 32) (hr : (p + q) / 2 = r) (h11 : a11 r = nI v)
    (H : wX_buildTree_21 post df dl c st pl sc te co n (nI (md + 2)) (nI (nd + 1)) a1 a2 a3 a4 a5 a6 a7 a8 a9 a10 a11 a12 a13 a14 (upd a15 nd (nI v)) (upd a16 nd (nI md)) (upd a17 nd (nI (md + 1))) (upd (upd a18 md (nI p)) (md + 1) (nI r)) (upd (upd a19 md (nI r)) (md + 1) (nI q)) a20 a21 a22 a23) : wX_buildTree_21 post df dl c st pl sc te co (n + 1) (nI md) (nI nd) a1 a2 a3 a4 a5 a6 a7 a8 a9 a10 a11 a12 a13 a14 a15 a16 a17 a18 a19 a20 a21 a22 a23 := by
  refine pk_le 63 nd (fun z => absurd z (by omega)) (fun _ => pk_le md nd (fun z => absurd z (by omega)) (fun _ => ⟨pk_in nd 64 (by omega), nm_r (e' := nI p) (by rw [nI_clamp (by omega)]; exact h18) ⟨pk_in nd 64 (by omega), nm_r (e' := nI q) (by rw [nI_clamp (by omega)]; exact h19) ?_⟩⟩))
  refine pk_lt (q - p) 2 (fun z => absurd z (by omega)) (fun _ => pk_le md 62 (fun _ => ?_) (fun z => absurd z (by omega))) (hx := pk_sub (by omega))
  refine nm_r (e' := nI r) (by rw [nI_add, pk_shrN (by omega) _ 1 (by decide), show (p + q) / 2 ^ 1 = r from hr]) ?_
  refine ⟨pk_in r 33 (by omega), pk_in nd 64 (by omega), nm_r (e' := upd a15 nd (nI v)) (by rw [nI_clamp (by omega), nI_clamp (by omega), h11]) ?_⟩
  refine ⟨pk_in nd 64 (by omega), nm_r (sf_st a16 (nI md) (by omega)) ⟨pk_in md 64 (by omega), nm_r (sf_st a18 (nI p) (by omega)) ⟨pk_in md 64 (by omega), nm_r (sf_st a19 (nI r) (by omega)) ?_⟩⟩⟩
  refine ⟨pk_in nd 64 (by omega), nm_r (e' := upd a17 nd (nI (md + 1))) (by rw [nI_clamp (by omega), nI_1]) ?_⟩
  refine ⟨pk_in (md + 1) 64 (by omega) (nI_1 md), nm_r (e' := upd (upd a18 md (nI p)) (md + 1) (nI r)) (by rw [nI_1, nI_clamp (by omega)]) ?_⟩
  refine ⟨pk_in (md + 1) 64 (by omega) (nI_1 md), nm_r (e' := upd (upd a19 md (nI r)) (md + 1) (nI q)) (by rw [nI_1, nI_clamp (by omega)]) ?_⟩
  exact nm_r (e' := nI (md + 2)) (nI_add md 2) (nm_r (nI_1 nd) H)
theorem sf_bt {post : St2 → Prop} {n : Nat} {b : Nat → Nat} (h1 : 1 ≤ n) (h3 : n ≤ 3) (h11 : ∀ j, j ≤ n → a11 j = nI (b j)) (H : ∀ b15 b16 b17 b18 b19, sf_tree n b b15 b16 b17 → post (df, dl, c, st, pl, nI n, te, co, a1, a2, a3, a4, a5, a6, a7, a8, a9, a10, a11, a12, a13, a14, b15, b16, b17, b18, b19, a20, a21, a22, a23)) : wpX_buildTree post (df, dl, c, st, pl, nI n, te, co, a1, a2, a3, a4, a5, a6, a7, a8, a9, a10, a11, a12, a13, a14, a15, a16, a17, a18, a19, a20, a21, a22, a23) := by
  unfold wpX_buildTree
  have hc : n = 1 ∨ n = 2 ∨ n = 3 := by omega
  rcases hc with rfl | rfl | rfl
  · refine nm_r (e' := upd a18 0 (nI 0)) rfl (nm_r (e' := upd a19 0 (nI 1)) rfl ⟨2, ?_⟩)
    refine sf_leaf (md := 1) (nd := 0) (p := 0) (q := 1) (by omega) (by omega) (by omega) rfl rfl (by omega) (by omega) (by omega) ?_
    exact sf_tend (md := 1) (nd := 1) (by omega) (by omega) (H _ _ _ _ _ (Or.inl ⟨rfl, rfl, rfl⟩))
  · refine nm_r (e' := upd a18 0 (nI 0)) rfl (nm_r (e' := upd a19 0 (nI 2)) rfl ⟨4, ?_⟩)
    refine sf_inner (md := 1) (nd := 0) (p := 0) (q := 2) (r := 1) (by omega) (by omega) (by omega) rfl rfl (by omega) (by omega) (by omega) (h11 1 (by omega)) ?_
    refine sf_leaf (md := 3) (nd := 1) (p := 0) (q := 1) (by omega) (by omega) (by omega) rfl rfl (by omega) (by omega) (by omega) ?_
    refine sf_leaf (md := 3) (nd := 2) (p := 1) (q := 2) (by omega) (by omega) (by omega) rfl rfl (by omega) (by omega) (by omega) ?_
    exact sf_tend (md := 3) (nd := 3) (by omega) (by omega) (H _ _ _ _ _ (Or.inr (Or.inl ⟨rfl, rfl, rfl, rfl, rfl, rfl, rfl, rfl⟩)))
  · refine nm_r (e' := upd a18 0 (nI 0)) rfl (nm_r (e' := upd a19 0 (nI 3)) rfl ⟨6, ?_⟩)
    refine sf_inner (md := 1) (nd := 0) (p := 0) (q := 3) (r := 1) (by omega) (by omega) (by omega) rfl rfl (by omega) (by omega) (by omega) (h11 1 (by omega)) ?_
    refine sf_leaf (md := 3) (nd := 1) (p := 0) (q := 1) (by omega) (by omega) (by omega) rfl rfl (by omega) (by omega) (by omega) ?_
    refine sf_inner (md := 3) (nd := 2) (p := 1) (q := 3) (r := 2) (by omega) (by omega) (by omega) rfl rfl (by omega) (by omega) (by omega) (h11 2 (by omega)) ?_
    refine sf_leaf (md := 5) (nd := 3) (p := 1) (q := 2) (by omega) (by omega) (by omega) rfl rfl (by omega) (by omega) (by omega) ?_
    refine sf_leaf (md := 5) (nd := 4) (p := 2) (q := 3) (by omega) (by omega) (by omega) rfl rfl (by omega) (by omega) (by omega) ?_
    exact sf_tend (md := 5) (nd := 5) (by omega) (by omega) (H _ _ _ _ _ (Or.inr (Or.inr ⟨rfl, rfl, rfl, rfl, rfl, rfl, rfl, rfl, rfl, rfl, rfl, rfl, rfl⟩)))
/-- the loop over the stretches, n of them -/
theorem sf_103 {post : St2 → Prop} {m f l n : Nat} {b : Nat → Nat} (hm : m ≤ 1) (h1 : 1 ≤ n) (h3 : n ≤ 3) (B : sf_B (sf_h m f l) n b) (h10 : ∀ j, j < 32 → a10 j = sf_h m f l j) (h11 : ∀ j, j ≤ n → a11 j = nI (b j))
    (H : ∀ te b12 b13 b14 b15 b16 b17 b18 b19, sf_K (sf_h m f l) b n te b12 b13 b14 → sf_tree n b b15 b16 b17 → post (df, dl, nI m, st, nI m, nI n, te, co, a1, a2, a3, a4, a5, a6, a7, a8, a9, a10, a11, b12, b13, b14, b15, b16, b17, b18, b19, a20, a21, a22, a23)) :
    ∃ fu, wX_compile_103 post fu 0 df dl (nI m) st (nI m) (nI n) 0 co a1 a2 a3 a4 a5 a6 a7 a8 a9 a10 a11 a12 a13 a14 a15 a16 a17 a18 a19 a20 a21 a22 a23 := by
  obtain ⟨b0, bn, bs, bl, bc, bd⟩ := B
  refine pk_loop (σ := Int32 × (Nat → Int32) × (Nat → Int32) × (Nat → Int32)) (fun fu i s => wX_compile_103 post fu (nI i) df dl (nI m) st (nI m) (nI n) s.1 co a1 a2 a3 a4 a5 a6 a7 a8 a9 a10 a11 s.2.1 s.2.2.1 s.2.2.2 a15 a16 a17 a18 a19 a20 a21 a22 a23)
    (fun i s => sf_T s.1 s.2.2.1 s.2.2.2 ∧ sf_K (sf_h m f l) b i s.1 s.2.1 s.2.2.1 s.2.2.2) n 0 (0, a12, a13, a14) (by omega) ⟨Or.inl rfl, fun j hj => absurd hj (by omega)⟩ ?_ ?_
  · intro fu s hs
    exact pk_le n n (fun _ => sf_bt h1 h3 h11 (fun b15 b16 b17 b18 b19 t => H s.1 s.2.1 s.2.2.1 s.2.2.2 b15 b16 b17 b18 b19 hs.2 t)) (fun z => absurd z (by omega))
  · intro fu i s hi hs hw
    obtain ⟨t, t12, t13, t14⟩ := s
    obtain ⟨T, K⟩ := hs
    have hb : b i < 32 := by have := bs i hi; have := bl (i + 1) (by omega); omega
    have e11 : a11 (nI i).toNatClampNeg = nI (b i) := by rw [nI_clamp (by omega)]; exact h11 i (by omega)
    have e10 : a10 (a11 (nI i).toNatClampNeg).toNatClampNeg = sf_h m f l (b i) := by rw [e11, nI_clamp (by omega)]; exact h10 _ hb
    refine pk_le n i (fun z => absurd z (by omega)) (fun _ => ⟨pk_in i 33 (by omega), pk_in (b i) 32 hb e11, ?_⟩)
    rcases sf_h01 m f l (b i) with ⟨q, _⟩ | ⟨q, q1, _⟩
    · refine sf_chain0 hm (e10.trans q) ⟨pk_in i 32 (by omega), nm_r (sf_st t12 _ (by omega)) (nm_r (nI_1 i) ?_)⟩
      exact hw (t, upd t12 i (-1), t13, t14) ⟨T, sf_keep K (fun x y z => ⟨x, y, z⟩) (Or.inl ⟨q, rfl⟩)⟩
    · refine sf_chain1 q1 (e10.trans q) T (fun w b13 b14 h0 h13 h14 => ⟨pk_in i 32 (by omega), nm_r (sf_st t12 _ (by omega)) (nm_r (nI_1 i) ?_)⟩)
      exact hw (1, upd t12 i w, b13, b14) ⟨Or.inr ⟨rfl, h13, h14⟩, sf_keep K (fun _ _ _ => ⟨rfl, h13, h14⟩) (Or.inr ⟨q, h0, rfl, h13, h14⟩)⟩
end
end
section
section
variable {df dl c st pl sc te co : Int32} {a1 a2 a3 a4 a5 a6 a7 a8 a9 a10 a11 a12 a13 a14 a15 a16 a17 a18 a19 a20 a21 a22 a23 : Nat → Int32}
/-- what compile leaves -/
def sf_C (m f l : Nat) (pl sc te co : Int32) (a10 a11 a12 a13 a14 a15 a16 a17 : Nat → Int32) : Prop :=
  co = 1 ∧ ∃ n b, 1 ≤ n ∧ n ≤ 3 ∧ sf_B (sf_h m f l) n b ∧ pl = nI m ∧ sc = nI n ∧ (∀ j, j < 32 → a10 j = sf_h m f l j) ∧ (∀ j, j ≤ n → a11 j = nI (b j)) ∧ sf_K (sf_h m f l) b n te a12 a13 a14 ∧ sf_tree n b a15 a16 a17
/-- what holds of the object from the first put on -/
def sf_R (m f l : Nat) (act sd : Int32) (c st pl sc te co : Int32) (a1 a2 a3 a6 a10 a11 a12 a13 a14 a15 a16 a17 : Nat → Int32) : Prop :=
  m ≤ 1 ∧ f ≤ l ∧ l < 32 ∧ c = nI m ∧ st = sd ∧ (m = 1 → a1 0 = nI f ∧ a2 0 = nI l ∧ a6 0 = act ∧ a3 0 = 0 ∧ a3 1 = 0) ∧ (co = 0 ∨ sf_C m f l pl sc te co a10 a11 a12 a13 a14 a15 a16 a17)
theorem sf_tail {post Q : St2 → Prop} {m f l : Nat} (hm : m ≤ 1) (hf : f ≤ l) (hl : l < 32) (r : m = 1 → a1 0 = nI f ∧ a2 0 = nI l)
    (hQ : ∀ sc b10 b11, (∃ fu, wX_compile_103 post fu 0 df dl (nI m) st (nI m) sc 0 1 a1 a2 a3 a4 a5 a6 a7 a8 a9 b10 b11 a12 a13 a14 a15 a16 a17 a18 a19 a20 a21 a22 a23) → Q (df, dl, nI m, st, nI m, sc, te, 1, a1, a2, a3, a4, a5, a6, a7, a8, a9, b10, b11, a12, a13, a14, a15, a16, a17, a18, a19, a20, a21, a22, a23))
    (H : ∀ sc te b10 b11 b12 b13 b14 b15 b16 b17 b18 b19, sf_C m f l (nI m) sc te 1 b10 b11 b12 b13 b14 b15 b16 b17 → post (df, dl, nI m, st, nI m, sc, te, 1, a1, a2, a3, a4, a5, a6, a7, a8, a9, b10, b11, b12, b13, b14, b15, b16, b17, b18, b19, a20, a21, a22, a23)) :
    wpX_cutStretches Q (df, dl, nI m, st, nI m, sc, te, 1, a1, a2, a3, a4, a5, a6, a7, a8, a9, a10, a11, a12, a13, a14, a15, a16, a17, a18, a19, a20, a21, a22, a23) := by
  obtain ⟨n, b, h1, h3, B⟩ := sf_shape (m := m) hf hl
  refine sf_cut hm hf hl r (by omega) B (fun b10 b11 h10 h11 => hQ _ _ _ ?_)
  refine sf_103 hm h1 h3 B h10 h11 (fun te b12 b13 b14 b15 b16 b17 b18 b19 K t => ?_)
  exact H _ _ _ _ _ _ _ _ _ _ _ _ ⟨rfl, n, b, h1, h3, B, rfl, rfl, h10, h11, K, t⟩
theorem sf_compile {post : St2 → Prop} {m f l : Nat} {act sd : Int32} (R : sf_R m f l act sd c st pl sc te co a1 a2 a3 a6 a10 a11 a12 a13 a14 a15 a16 a17)
    (H : ∀ pl sc te co b7 b8 b9 b10 b11 b12 b13 b14 b15 b16 b17 b18 b19, sf_C m f l pl sc te co b10 b11 b12 b13 b14 b15 b16 b17 → post (df, dl, c, st, pl, sc, te, co, a1, a2, a3, a4, a5, a6, b7, b8, b9, b10, b11, b12, b13, b14, b15, b16, b17, b18, b19, a20, a21, a22, a23)) : wpX_compile post (df, dl, c, st, pl, sc, te, co, a1, a2, a3, a4, a5, a6, a7, a8, a9, a10, a11, a12, a13, a14, a15, a16, a17, a18, a19, a20, a21, a22, a23) := by
  obtain ⟨hm, hf, hl, rfl, rfl, r, hc⟩ := R
  unfold wpX_compile
  rcases hc with h0 | C
  · refine br_t h0 ?_
    by_cases h1 : m = 1
    · subst h1
      obtain ⟨r1, r2, _, r3, r4⟩ := r rfl
      refine ⟨2, br_f (by decide) ?_⟩
      refine sf_norm (p := 0) (by decide) (by omega) r3 (fun b7 b8 b9 => ?_)
      refine sf_norm (p := 1) (by decide) (by omega) r4 (fun c7 c8 c9 => ?_)
      refine ⟨pk_in 0 26 (by omega) (by decide), br_t (show a3 0 &&& 7 = 0 by rw [r3]; decide) ⟨pk_in 1 26 (by omega) (by decide), br_t (show a3 1 &&& 7 = 0 by rw [r4]; decide) ?_⟩⟩
      refine nm_r (e' := nI 1) (by decide) (nm_r (e' := 1) (by decide) (br_t (by decide) ?_))
      exact sf_tail (m := 1) (by omega) hf hl (fun _ => ⟨r1, r2⟩) (fun _ _ _ h => h) (fun _ _ _ _ _ _ _ _ _ _ _ _ C => H _ _ _ _ _ _ _ _ _ _ _ _ _ _ _ _ _ C)
    · have h2 : m = 0 := by omega
      subst h2
      refine ⟨1, br_t (by decide) ?_⟩
      exact sf_tail (m := 0) (by omega) hf hl (fun z => absurd z (by omega)) (fun _ _ _ h => h) (fun _ _ _ _ _ _ _ _ _ _ _ _ C => H _ _ _ _ _ _ _ _ _ _ _ _ _ _ _ _ _ C)
  · exact br_f (by rw [C.1]; decide) (H _ _ _ _ _ _ _ _ _ _ _ _ _ _ _ _ _ C)
end
end
section
section
variable {df dl c st pl sc te co : Int32} {a1 a2 a3 a4 a5 a6 a7 a8 a9 a10 a11 a12 a13 a14 a15 a16 a17 a18 a19 a20 a21 a22 a23 : Nat → Int32}
theorem sf_ne {p : Nat} (hp : p < 2 ^ 31) : ¬ nI p = -1 := by
  intro h
  have e := congrArg Int32.toInt h
  rw [nI_toInt hp, show (-1 : Int32).toInt = -1 from by decide] at e
  omega
theorem sf_32 {x : Int32} (h : 31 < x) : 32 ≤ x := by
  rw [Int32.lt_iff_toInt_lt, show (31 : Int32).toInt = 31 from by decide] at h
  rw [Int32.le_iff_toInt_le, show (32 : Int32).toInt = 32 from by decide]
  omega
theorem sf_num {post : Int32 → Prop} {q : Nat} (hq : q < 32) (H : post 1) : wpX_isNumber post () (nI q) := br_f (nI_pos (by omega)) (br_f (nI_ge (b := 32) hq (by decide)) H)
theorem sf_num0 {post : Int32 → Prop} {x : Int32} (h : x < 0 ∨ 31 < x) (H : post 0) : wpX_isNumber post () x := br_c (fun _ => H) (fun n => br_t (sf_32 (h.resolve_left n)) H)
theorem sf_sleaf {post : Int32 → Prop} {x1 x2 x3 : Int32} {n nd : Nat} (hx : x2 = nI nd) (hn : nd < 64) (h15 : a15 nd = -1) (H : post (a16 nd)) : wX_stretchOf_4 post x1 df dl c st pl sc te co a1 a2 a3 a4 a5 a6 a7 a8 a9 a10 a11 a12 a13 a14 a15 a16 a17 a18 a19 a20 a21 a22 a23 (n + 1) x2 x3 := by
  subst hx
  have e : post (a16 (nI nd).toNatClampNeg) := by rw [nI_clamp (by omega)]; exact H
  exact br_c (fun _ => ⟨pk_in nd 64 hn, e⟩) (fun _ => ⟨pk_in nd 64 hn, br_t (by rw [nI_clamp (by omega)]; exact h15) ⟨pk_in nd 64 hn, e⟩⟩)
theorem sf_sin {post : Int32 → Prop} {x2 x3 : Int32} {n nd kk p q : Nat} (hx : x2 = nI nd) (hn : nd < 64) (hk : x3 = nI kk) (hk8 : kk < 8) (h15 : a15 nd = nI p) (hp : p < 33) (hq : q < 32)
    (H1 : q < p → wX_stretchOf_4 post (nI q) df dl c st pl sc te co a1 a2 a3 a4 a5 a6 a7 a8 a9 a10 a11 a12 a13 a14 a15 a16 a17 a18 a19 a20 a21 a22 a23 n (a16 nd) (nI (kk + 1))) (H2 : p ≤ q → wX_stretchOf_4 post (nI q) df dl c st pl sc te co a1 a2 a3 a4 a5 a6 a7 a8 a9 a10 a11 a12 a13 a14 a15 a16 a17 a18 a19 a20 a21 a22 a23 n (a17 nd) (nI (kk + 1))) : wX_stretchOf_4 post (nI q) df dl c st pl sc te co a1 a2 a3 a4 a5 a6 a7 a8 a9 a10 a11 a12 a13 a14 a15 a16 a17 a18 a19 a20 a21 a22 a23 (n + 1) x2 x3 := by
  subst hx hk
  have e : (nI nd).toNatClampNeg = nd := nI_clamp (by omega)
  have e15 : a15 (nI nd).toNatClampNeg = nI p := by rw [e]; exact h15
  exact pk_le 8 kk (fun z => absurd z (by omega)) (fun _ => ⟨pk_in nd 64 hn, br_f (by rw [e15]; exact sf_ne (by omega)) ⟨pk_in nd 64 hn, pk_le p q (fun z => ⟨pk_in nd 64 hn, nm_r (e' := a17 nd) (by rw [e]) (nm_r (nI_1 kk) (H2 z))⟩) (fun z => ⟨pk_in nd 64 hn, nm_r (e' := a16 nd) (by rw [e]) (nm_r (nI_1 kk) (H1 z))⟩) (hx := e15)⟩⟩)
theorem sf_so {post : Int32 → Prop} {h : Nat → Int32} {n q : Nat} {b : Nat → Nat} (B : sf_B h n b) (t : sf_tree n b a15 a16 a17) (hq : q < 32) (H : ∀ i, i < n → b i ≤ q → q < b (i + 1) → post (nI i)) : wpX_stretchOf post (df, dl, c, st, pl, sc, te, co, a1, a2, a3, a4, a5, a6, a7, a8, a9, a10, a11, a12, a13, a14, a15, a16, a17, a18, a19, a20, a21, a22, a23) (nI q) := by
  obtain ⟨b0, bn, bs, bl, bc, bd⟩ := B
  unfold wpX_stretchOf
  rcases t with ⟨rfl, t1, t2⟩ | ⟨rfl, t1, t2, t3, t4, t5, t6, t7⟩ | ⟨rfl, t1, t2, t3, t4, t5, t6, t7, t8, t9, t10, t11, t12⟩
  · exact ⟨1, sf_sleaf (nd := 0) rfl (by omega) t1 (by rw [t2]; exact H 0 (by omega) (by omega) (show q < b 1 by omega))⟩
  · have l1 := bl 1 (by omega)
    exact ⟨2, sf_sin (nd := 0) (kk := 0) rfl (by omega) rfl (by omega) t1 (by omega) hq
      (fun z => sf_sleaf (nd := 1) t2 (by omega) t4 (by rw [t5]; exact H 0 (by omega) (by omega) (by omega)))
      (fun z => sf_sleaf (nd := 2) t3 (by omega) t6 (by rw [t7]; exact H 1 (by omega) (by omega) (show q < b 2 by omega)))⟩
  · have l1 := bl 1 (by omega)
    have l2 := bl 2 (by omega)
    exact ⟨3, sf_sin (nd := 0) (kk := 0) rfl (by omega) rfl (by omega) t1 (by omega) hq
      (fun z => sf_sleaf (nd := 1) t2 (by omega) t4 (by rw [t5]; exact H 0 (by omega) (by omega) (by omega)))
      (fun z => sf_sin (nd := 2) (kk := 1) t3 (by omega) rfl (by omega) t6 (by omega) hq
        (fun z2 => sf_sleaf (nd := 3) t7 (by omega) t9 (by rw [t10]; exact H 1 (by omega) (by omega) (by omega)))
        (fun z2 => sf_sleaf (nd := 4) t8 (by omega) t11 (by rw [t12]; exact H 2 (by omega) (by omega) (show q < b 3 by omega))))⟩
theorem sf_meets {post : Int32 → Prop} {x : Int32} {p : Nat} (hx : x = nI p) (hp : p < 24) (h : a3 p = 0) (H : post 1) : wpX_meets post (df, dl, c, st, pl, sc, te, co, a1, a2, a3, a4, a5, a6, a7, a8, a9, a10, a11, a12, a13, a14, a15, a16, a17, a18, a19, a20, a21, a22, a23) x := by
  subst hx
  have e : a3 (nI p).toNatClampNeg = 0 := by rw [nI_clamp (by omega)]; exact h
  unfold wpX_meets
  exact ⟨pk_in p 26 (by omega), pk_in 0 2 (by omega) (by rw [e] <;> decide), pk_in p 26 (by omega), nm_e ⟨pk_in p 26 (by omega), br_t (by rw [e] <;> decide) H⟩⟩
theorem sf_holds {post : Int32 → Prop} {x : Int32} (hx : x = 0) (h0 : a3 0 = 0) (h1 : a3 1 = 0) (H : post 1) : wpX_holds post (df, dl, c, st, pl, sc, te, co, a1, a2, a3, a4, a5, a6, a7, a8, a9, a10, a11, a12, a13, a14, a15, a16, a17, a18, a19, a20, a21, a22, a23) x := by
  subst hx
  unfold wpX_holds
  exact sf_meets (p := 0) (by decide) (by omega) h0 (br_f (by decide) (sf_meets (p := 1) (by decide) (by omega) h1 (br_f (by decide) H)))
theorem sf_fol_n {post : Int32 → Prop} {x : Int32} (hx : x = -1) (H : post (-1)) : wpX_follow post (df, dl, c, st, pl, sc, te, co, a1, a2, a3, a4, a5, a6, a7, a8, a9, a10, a11, a12, a13, a14, a15, a16, a17, a18, a19, a20, a21, a22, a23) x := by
  subst hx
  unfold wpX_follow
  exact ⟨1, br_f (by decide) (br_t rfl H)⟩
theorem sf_fol_0 {post : Int32 → Prop} {x : Int32} (hx : x = 0) (h13 : a13 0 = 0) (h0 : a3 0 = 0) (h1 : a3 1 = 0) (H : post 0) : wpX_follow post (df, dl, c, st, pl, sc, te, co, a1, a2, a3, a4, a5, a6, a7, a8, a9, a10, a11, a12, a13, a14, a15, a16, a17, a18, a19, a20, a21, a22, a23) x := by
  subst hx
  unfold wpX_follow
  have e : post (a13 (0 : Int32).toNatClampNeg) := by
    show post (a13 0)
    rw [h13]; exact H
  exact ⟨1, br_f (by decide) (br_f (by decide) ⟨pk_in 0 400 (by omega), sf_holds h13 h0 h1 (br_f (by decide) ⟨pk_in 0 400 (by omega), e⟩)⟩)⟩
theorem sf_verdict {post : Int32 → Prop} {m f l n i q : Nat} {b : Nat → Nat} {act : Int32} (r : m = 1 → a6 0 = act ∧ a3 0 = 0 ∧ a3 1 = 0) (hn : n ≤ 3) (B : sf_B (sf_h m f l) n b) (K : sf_K (sf_h m f l) b n te a12 a13 a14)
    (hi : i < n) (h1 : b i ≤ q) (h2 : q < b (i + 1)) (H : post (if m = 1 ∧ f ≤ q ∧ q ≤ l then act else st)) : wpX_verdict post (df, dl, c, st, pl, sc, te, co, a1, a2, a3, a4, a5, a6, a7, a8, a9, a10, a11, a12, a13, a14, a15, a16, a17, a18, a19, a20, a21, a22, a23) (nI i) := by
  have hq := B.2.2.2.2.1 i hi q h1 h2
  unfold wpX_verdict
  refine ⟨pk_in i 32 (by omega), ?_⟩
  have e : a12 (nI i).toNatClampNeg = a12 i := by rw [nI_clamp (by omega)]
  rcases K i hi with ⟨k1, k2⟩ | ⟨k1, k2, k3, k4, k5⟩
  · have hc : ¬ (m = 1 ∧ f ≤ q ∧ q ≤ l) := by
      intro z
      rw [k1, sf_h1 z] at hq
      exact absurd hq (by decide)
    rw [if_neg hc] at H
    exact sf_fol_n (e.trans k2) (br_t rfl H)
  · have hc : m = 1 ∧ f ≤ q ∧ q ≤ l := by
      rcases sf_h01 m f l q with ⟨z, _⟩ | ⟨_, z⟩
      · rw [k1, z] at hq
        exact absurd hq (by decide)
      · exact z
    obtain ⟨r1, r2, r3⟩ := r hc.1
    rw [if_pos hc] at H
    have e6 : post (a6 (0 : Int32).toNatClampNeg) := by
      show post (a6 0)
      rw [r1]; exact H
    exact sf_fol_0 (e.trans k2) k4 r2 r3 (br_f (by decide) ⟨pk_in 0 13 (by omega), e6⟩)
theorem sf_decide {post : Int32 → St2 → Prop} {m f l q : Nat} {act sd : Int32} (R : sf_R m f l act sd c st pl sc te co a1 a2 a3 a6 a10 a11 a12 a13 a14 a15 a16 a17) (hq : q < 32)
    (H : ∀ pl sc te co b7 b8 b9 b10 b11 b12 b13 b14 b15 b16 b17 b18 b19, sf_R m f l act sd c st pl sc te co a1 a2 a3 a6 b10 b11 b12 b13 b14 b15 b16 b17 → post (if m = 1 ∧ f ≤ q ∧ q ≤ l then act else sd) (df, dl, c, st, pl, sc, te, co, a1, a2, a3, a4, a5, a6, b7, b8, b9, b10, b11, b12, b13, b14, b15, b16, b17, b18, b19, a20, a21, a22, a23)) : wpX_decide post (df, dl, c, st, pl, sc, te, co, a1, a2, a3, a4, a5, a6, a7, a8, a9, a10, a11, a12, a13, a14, a15, a16, a17, a18, a19, a20, a21, a22, a23) (nI q) := by
  unfold wpX_decide
  refine sf_num hq (br_f (by decide) (sf_compile R (fun pl sc te co b7 b8 b9 b10 b11 b12 b13 b14 b15 b16 b17 b18 b19 C => ?_)))
  obtain ⟨hm, hf, hl, hc, hs, r, _⟩ := R
  subst hs
  have H' := H pl sc te co b7 b8 b9 b10 b11 b12 b13 b14 b15 b16 b17 b18 b19 ⟨hm, hf, hl, hc, rfl, r, Or.inr C⟩
  obtain ⟨_, n, b, h1, h3, B, _, _, _, _, K, t⟩ := C
  refine sf_so B t hq (fun i hi z1 z2 => ?_)
  exact sf_verdict (act := act) (fun z => ⟨(r z).2.2.1, (r z).2.2.2⟩) h3 B K hi z1 z2 H'
theorem sf_decide0 {post : Int32 → St2 → Prop} {x : Int32} (h : x < 0 ∨ 31 < x) (H : post (-1) (df, dl, c, st, pl, sc, te, co, a1, a2, a3, a4, a5, a6, a7, a8, a9, a10, a11, a12, a13, a14, a15, a16, a17, a18, a19, a20, a21, a22, a23)) : wpX_decide post (df, dl, c, st, pl, sc, te, co, a1, a2, a3, a4, a5, a6, a7, a8, a9, a10, a11, a12, a13, a14, a15, a16, a17, a18, a19, a20, a21, a22, a23) x := by
  unfold wpX_decide
  exact sf_num0 h (br_t rfl H)
/-- how many of the first k numbers no rule has -/
def sf_Z (m f l k : Nat) : Nat := if m = 1 then k - (min k (l + 1) - min k f) else k
theorem sf_Zs {m f l n i : Nat} {b : Nat → Nat} (hf : f ≤ l) (B : sf_B (sf_h m f l) n b) (hi : i < n) : (sf_h m f l (b i) = 0 → sf_Z m f l (b i) + (b (i + 1) - b i) = sf_Z m f l (b (i + 1))) ∧ (¬ sf_h m f l (b i) = 0 → sf_Z m f l (b i) = sf_Z m f l (b (i + 1))) := by
  obtain ⟨b0, bn, bs, bl, bc, bd⟩ := B
  have s := bs i hi
  have hb := bc i hi f
  have he := bc i hi (b (i + 1) - 1) (by omega) (by omega)
  generalize b i = x at *
  generalize b (i + 1) = y at *
  unfold sf_Z
  by_cases hm : m = 1
  · rw [if_pos hm, if_pos hm]
    rcases sf_h01 m f l x with ⟨z, hz⟩ | ⟨z, hz⟩
    · refine ⟨fun _ => ?_, fun w => absurd z w⟩
      have hfx : ¬ (x ≤ f ∧ f < y) := by
        intro w
        have e := hb w.1 w.2
        rw [sf_h1 ⟨hm, by omega, hf⟩, z] at e
        exact absurd e (by decide)
      omega
    · refine ⟨fun w => absurd (z.symm.trans w) (by decide), fun _ => ?_⟩
      have hly : y - 1 ≤ l := by
        rcases sf_h01 m f l (y - 1) with ⟨z2, _⟩ | ⟨_, z2⟩
        · rw [z, z2] at he
          exact absurd he (by decide)
        · exact z2.2.2
      omega
  · rw [if_neg hm, if_neg hm]
    exact ⟨fun _ => by omega, fun w => absurd (sf_h0 (fun z => hm z.1)) w⟩
theorem sf_o8 {post : Int32 → St2 → Prop} {m f l n : Nat} {b : Nat → Nat} (hf : f ≤ l) (hn : n ≤ 3) (B : sf_B (sf_h m f l) n b) (h10 : ∀ j, j < 32 → a10 j = sf_h m f l j) (h11 : ∀ j, j ≤ n → a11 j = nI (b j))
    (H : post (nI (sf_Z m f l 32)) (df, dl, c, st, pl, nI n, te, co, a1, a2, a3, a4, a5, a6, a7, a8, a9, a10, a11, a12, a13, a14, a15, a16, a17, a18, a19, a20, a21, a22, a23)) : ∃ fu, wX_open_8 post df dl c st pl (nI n) te co a1 a2 a3 a4 a5 a6 a7 a8 a9 a10 a11 a12 a13 a14 a15 a16 a17 a18 a19 a20 a21 a22 a23 fu 0 0 := by
  have t : ∃ fu, wX_open_8 post df dl c st pl (nI n) te co a1 a2 a3 a4 a5 a6 a7 a8 a9 a10 a11 a12 a13 a14 a15 a16 a17 a18 a19 a20 a21 a22 a23 fu (nI (sf_Z m f l (b 0))) (nI 0) := pk_loop (σ := Unit) (fun fu i _ => wX_open_8 post df dl c st pl (nI n) te co a1 a2 a3 a4 a5 a6 a7 a8 a9 a10 a11 a12 a13 a14 a15 a16 a17 a18 a19 a20 a21 a22 a23 fu (nI (sf_Z m f l (b i))) (nI i)) (fun _ _ => True) n 0 () (by omega) trivial
    (fun fu _ _ => pk_le n n (fun _ => by rw [B.2.1]; exact H) (fun z => absurd z (by omega)))
    (fun fu i _ hi _ hw => by
      have hb : b i < b (i + 1) := B.2.2.1 i hi
      have hb2 : b (i + 1) ≤ 32 := B.2.2.2.1 (i + 1) (by omega)
      have e11 : a11 (nI i).toNatClampNeg = nI (b i) := by rw [nI_clamp (by omega)]; exact h11 i (by omega)
      have e11' : a11 (nI i + 1).toNatClampNeg = nI (b (i + 1)) := by rw [nI_1, nI_clamp (by omega)]; exact h11 (i + 1) (by omega)
      have e10 : a10 (a11 (nI i).toNatClampNeg).toNatClampNeg = sf_h m f l (b i) := by rw [e11, nI_clamp (by omega)]; exact h10 _ (by omega)
      have Z := sf_Zs hf B hi
      have hw' : wX_open_8 post df dl c st pl (nI n) te co a1 a2 a3 a4 a5 a6 a7 a8 a9 a10 a11 a12 a13 a14 a15 a16 a17 a18 a19 a20 a21 a22 a23 fu (nI (sf_Z m f l (b (i + 1)))) (nI (i + 1)) := hw () trivial
      refine pk_le n i (fun z => absurd z (by omega)) (fun _ => ⟨pk_in i 33 (by omega), pk_in (b i) 32 (by omega) e11, ?_⟩)
      refine br_c (fun z => ⟨pk_in (i + 1) 33 (by omega) (nI_1 i), pk_in i 33 (by omega), nm_r (e' := nI (sf_Z m f l (b (i + 1)))) (by rw [e11, e11', pk_sub (by omega), nI_add, Z.1 (e10.symm.trans z)]) (nm_r (nI_1 i) hw')⟩) (fun z => nm_r (nI_1 i) ?_)
      rw [Z.2 (fun w => z (e10.trans w))]
      exact hw')
  rw [B.1] at t
  have z0 : sf_Z m f l 0 = 0 := by
    unfold sf_Z
    split <;> omega
  rw [z0] at t
  exact t
theorem sf_open {post : Int32 → St2 → Prop} {m f l : Nat} {act sd : Int32} (R : sf_R m f l act sd c st pl sc te co a1 a2 a3 a6 a10 a11 a12 a13 a14 a15 a16 a17)
    (H : ∀ pl sc te co b7 b8 b9 b10 b11 b12 b13 b14 b15 b16 b17 b18 b19, sf_R m f l act sd c st pl sc te co a1 a2 a3 a6 b10 b11 b12 b13 b14 b15 b16 b17 → post (nI (sf_Z m f l 32)) (df, dl, c, st, pl, sc, te, co, a1, a2, a3, a4, a5, a6, b7, b8, b9, b10, b11, b12, b13, b14, b15, b16, b17, b18, b19, a20, a21, a22, a23)) : wpX_open post (df, dl, c, st, pl, sc, te, co, a1, a2, a3, a4, a5, a6, a7, a8, a9, a10, a11, a12, a13, a14, a15, a16, a17, a18, a19, a20, a21, a22, a23) := by
  unfold wpX_open
  refine sf_compile R (fun pl sc te co b7 b8 b9 b10 b11 b12 b13 b14 b15 b16 b17 b18 b19 C => ?_)
  obtain ⟨hm, hf, hl, hc, hs, r, _⟩ := R
  have H' := H pl sc te co b7 b8 b9 b10 b11 b12 b13 b14 b15 b16 b17 b18 b19 ⟨hm, hf, hl, hc, hs, r, Or.inr C⟩
  obtain ⟨_, n, b, h1, h3, B, _, h_sc, h10, h11, K, t⟩ := C
  subst h_sc
  exact sf_o8 hf h3 B h10 h11 H'
theorem sf_in {h : Nat → Int32} {n : Nat} {b : Nat → Nat} (B : sf_B h n b) {q : Nat} (hq : q < 32) : ∃ i, i < n ∧ b i ≤ q ∧ q < b (i + 1) := by
  obtain ⟨b0, bn, bs, bl, bc, bd⟩ := B
  have key : ∀ k, k ≤ n → q < b k → ∃ i, i < n ∧ b i ≤ q ∧ q < b (i + 1) := by
    intro k
    induction k with
    | zero => intro _ z; omega
    | succ k ih =>
      intro hk z
      by_cases w : q < b k
      · exact ih (by omega) w
      · exact ⟨k, by omega, by omega, z⟩
  exact key n (by omega) (by omega)
theorem sf_hid {post : Int32 → St2 → Prop} {m f l : Nat} {act sd : Int32} (R : sf_R m f l act sd c st pl sc te co a1 a2 a3 a6 a10 a11 a12 a13 a14 a15 a16 a17)
    (H0 : m = 0 → ∀ u, post (-1) u) (H1 : m = 1 → ∀ u, post 0 u) : wpX_hidden post (df, dl, c, st, pl, sc, te, co, a1, a2, a3, a4, a5, a6, a7, a8, a9, a10, a11, a12, a13, a14, a15, a16, a17, a18, a19, a20, a21, a22, a23) 0 := by
  have R' := R
  obtain ⟨hm, hf, hl, hc, hs, r, _⟩ := R'
  subst hc
  unfold wpX_hidden
  by_cases h1 : m = 1
  · subst h1
    refine br_f (by decide) (br_f (by decide) (br_f (by decide) (sf_compile R (fun pl sc te co b7 b8 b9 b10 b11 b12 b13 b14 b15 b16 b17 b18 b19 C => ?_))))
    obtain ⟨_, n, b, h1, h3, B, h_pl, h_sc, h10, h11, K, t⟩ := C
    subst h_sc h_pl
    obtain ⟨i0, hi0, q1, q2⟩ := sf_in B (q := f) (by omega)
    have e0 : sf_h 1 f l (b i0) = 1 := by
      rw [← B.2.2.2.2.1 i0 hi0 f q1 q2]
      exact sf_h1 ⟨rfl, by omega, hf⟩
    refine nm_r (e' := 0) (by decide) ?_
    refine pk_loop (σ := Unit) (fun fu i _ => wX_hidden_27 post 0 0 df dl (nI 1) st (nI 1) (nI n) te co a1 a2 a3 a4 a5 a6 b7 b8 b9 b10 b11 b12 b13 b14 b15 b16 b17 b18 b19 a20 a21 a22 a23 fu (nI i)) (fun _ _ => True) i0 0 () (by omega) trivial ?_ ?_
    · intro fu _ _
      have hb : b i0 < 32 := by omega
      have e11 : b11 (nI i0).toNatClampNeg = nI (b i0) := by rw [nI_clamp (by omega)]; exact h11 i0 (by omega)
      refine pk_le n i0 (fun z => absurd z (by omega)) (fun _ => ⟨pk_in i0 33 (by omega), pk_in (b i0) 32 hb e11, nm_r (e' := 1) (by rw [e11, nI_clamp (by omega), h10 _ hb, e0]) ?_⟩)
      exact br_t (by decide) (br_t (by decide) (H1 rfl _))
    · intro fu i _ hi _ hw
      have hb : b i < 32 := by have := B.2.2.1 i (by omega); have := B.2.2.2.1 (i + 1) (by omega); omega
      have e11 : b11 (nI i).toNatClampNeg = nI (b i) := by rw [nI_clamp (by omega)]; exact h11 i (by omega)
      refine pk_le n i (fun z => absurd z (by omega)) (fun _ => ⟨pk_in i 33 (by omega), pk_in (b i) 32 hb e11, ?_⟩)
      rcases sf_h01 1 f l (b i) with ⟨z, _⟩ | ⟨z, _⟩
      · exact nm_r (e' := 0) (by rw [e11, nI_clamp (by omega), h10 _ hb, z]) (br_f (by decide) (nm_r (nI_1 i) (hw () trivial)))
      · exact nm_r (e' := 1) (by rw [e11, nI_clamp (by omega), h10 _ hb, z]) (br_t (by decide) (br_t (by decide) (H1 rfl _)))
  · have h2 : m = 0 := by omega
    subst h2
    exact br_f (by decide) (br_t (by decide) (br_t rfl (H0 rfl _)))
end
end
section
section
variable {df dl c st pl sc te co : Int32} {a1 a2 a3 a4 a5 a6 a7 a8 a9 a10 a11 a12 a13 a14 a15 a16 a17 a18 a19 a20 a21 a22 a23 : Nat → Int32}
theorem sf_act0 {post : Int32 → Prop} {x : Int32} (h : x < 0 ∨ 3 < x) (H : post 0) : wpX_isAction post () x := br_c (fun _ => H) (fun n => br_t (h.resolve_left n) H)
theorem sf_act1 {post : Int32 → Prop} {x : Int32} (h : ¬ x < 0) (h3 : ¬ 3 < x) (H : post 1) : wpX_isAction post () x := br_f h (br_f h3 H)
theorem sf_n32 {x : Int32} (h : ¬ x < 0) (h2 : ¬ 31 < x) : ∃ q : Nat, q < 32 ∧ x = nI q := by
  obtain ⟨j, hj, e⟩ := nI_of2 (x := x) (M := 31) (n := 31) (by decide) h (Int32.not_lt.mp h2)
  exact ⟨j, by omega, e⟩
theorem sf_put {post : Int32 → St2 → Prop} {p1 : Int32} (h : ¬ p1 < 0) (h3 : ¬ 3 < p1) (h21 : a21 0 = 0) (h21' : a21 1 = 0)
    (H : ∀ b1 b2 b3 b4 b5 b6, b1 0 = df → b2 0 = dl → b6 0 = p1 → b3 0 = 0 → b3 1 = 0 → post 1 (df, dl, 1, st, pl, sc, te, 0, b1, b2, b3, b4, b5, b6, a7, a8, a9, a10, a11, a12, a13, a14, a15, a16, a17, a18, a19, a20, a21, a22, a23)) : wpX_put post (df, dl, 0, st, pl, sc, te, co, a1, a2, a3, a4, a5, a6, a7, a8, a9, a10, a11, a12, a13, a14, a15, a16, a17, a18, a19, a20, a21, a22, a23) 0 p1 := by
  unfold wpX_put
  refine br_f (by decide) (br_t (by decide) (sf_act1 h h3 (br_f (by decide) (br_f (by decide) ⟨1, ?_⟩))))
  refine br_t (by decide) ⟨pk_in 0 13 (by omega), nm_r (e' := upd a1 0 df) rfl ⟨pk_in 0 13 (by omega), nm_r (e' := upd a2 0 dl) rfl ⟨pk_in 0 13 (by omega), nm_r (e' := upd a6 0 p1) rfl ⟨3, ?_⟩⟩⟩⟩
  refine br_f (by decide) ⟨pk_in 0 2 (by omega), pk_in 0 26 (by omega) (by decide), nm_r (e' := upd a3 0 (a21 0)) rfl ⟨pk_in 0 2 (by omega), pk_in 0 26 (by omega) (by decide), nm_e ⟨pk_in 0 2 (by omega), pk_in 0 26 (by omega) (by decide), nm_e (nm_r (e' := 1) (by decide) ?_)⟩⟩⟩
  refine br_f (by decide) ⟨pk_in 1 2 (by omega), pk_in 1 26 (by omega) (by decide), nm_r (e' := upd (upd a3 0 (a21 0)) 1 (a21 1)) rfl ⟨pk_in 1 2 (by omega), pk_in 1 26 (by omega) (by decide), nm_e ⟨pk_in 1 2 (by omega), pk_in 1 26 (by omega) (by decide), nm_e (nm_r (e' := 2) (by decide) ?_)⟩⟩⟩
  refine br_t (by decide) (nm_r (e' := 1) (by decide) (H _ _ _ _ _ _ pk_us pk_us pk_us ?_ ?_))
  · rw [pk_un (by omega), pk_us]; exact h21
  · rw [pk_us]; exact h21'
section
variable {post : Int32 → St0 → Prop} {mc ms kc ks m f l : Nat} {x0 x1 x2 x3 x4 x6 x7 x8 x9 x10 x11 x12 x13 z0 z1 sd : Int32}
theorem sf_L318 (R : sf_R m f l x3 sd c st pl sc te co a1 a2 a3 a6 a10 a11 a12 a13 a14 a15 a16 a17) (hx : x11 = nI m) (hz : z1 = z0) (H : post 1 ()) : wL_lawOf_318 post mc ms x11 z0 z1 kc ks df dl c st pl sc te co a1 a2 a3 a4 a5 a6 a7 a8 a9 a10 a11 a12 a13 a14 a15 a16 a17 a18 a19 a20 a21 a22 a23 := by
  unfold wL_lawOf_318
  refine br_t hz (sf_hid R (fun h0 u => ?_) (fun h1 u => ?_))
  · obtain ⟨_, _, _, _, _, _, _, _, _, _, _, _, _, _, _, _, _, _, _, _, _, _, _, _, _, _, _, _, _, _, _⟩ := u
    exact br_t (by rw [hx, h0]; decide) (br_t rfl H)
  · obtain ⟨_, _, _, _, _, _, _, _, _, _, _, _, _, _, _, _, _, _, _, _, _, _, _, _, _, _, _, _, _, _, _⟩ := u
    exact br_f (by rw [hx, h1]; decide) (br_t rfl H)
theorem sf_L290 (R : sf_R m f l x3 sd c st pl sc te co a1 a2 a3 a6 a10 a11 a12 a13 a14 a15 a16 a17) (hx : x11 = nI m) (h8 : x8 = nI f) (h9 : x9 = nI l) (hz : z1 = z0) (H : post 1 ()) : wL_lawOf_290 post mc ms x8 x9 x11 z0 z1 kc ks df dl c st pl sc te co a1 a2 a3 a4 a5 a6 a7 a8 a9 a10 a11 a12 a13 a14 a15 a16 a17 a18 a19 a20 a21 a22 a23 := by
  unfold wL_lawOf_290
  refine br_t hz (sf_open R (fun pl sc te co b7 b8 b9 b10 b11 b12 b13 b14 b15 b16 b17 b18 b19 R' => ?_))
  have hm := R.1
  have hf := R.2.1
  have hl := R.2.2.1
  by_cases h1 : m = 1
  · refine br_f (by rw [hx, h1]; decide) (sf_L318 R' hx ?_ H)
    unfold sf_Z
    rw [if_pos h1, h9, h8, show (31 : Int32) = nI 31 from rfl, pk_sub (by omega), nI_add]
    exact congrArg nI (by omega)
  · have h2 : m = 0 := by omega
    refine br_t (by rw [hx, h2]; decide) (sf_L318 R' hx ?_ H)
    unfold sf_Z
    rw [if_neg h1]
    rfl
theorem sf_L253 (R : sf_R m f l x3 sd c st pl sc te co a1 a2 a3 a6 a10 a11 a12 a13 a14 a15 a16 a17) (hx : x11 = nI m) (h8 : x8 = nI f) (h9 : x9 = nI l) (hs : (x12 = 0 ∧ sd = 0) ∨ (¬ x12 = 0 ∧ sd = x0))
    (hc : (x13 = 0 ∧ (x4 < 0 ∨ 31 < x4)) ∨ (¬ x13 = 0 ∧ ∃ q, q < 32 ∧ x4 = nI q ∧ ((¬ z0 = 0 ∧ m = 1 ∧ f ≤ q ∧ q ≤ l) ∨ (z0 = 0 ∧ ¬ (m = 1 ∧ f ≤ q ∧ q ≤ l))))) (H : post 1 ()) : wL_lawOf_253 post mc ms x0 x3 x4 x8 x9 x11 x12 x13 z0 kc ks df dl c st pl sc te co a1 a2 a3 a4 a5 a6 a7 a8 a9 a10 a11 a12 a13 a14 a15 a16 a17 a18 a19 a20 a21 a22 a23 := by
  unfold wL_lawOf_253
  rcases hc with ⟨h13, ho⟩ | ⟨h13, q, hq, rfl, hh⟩
  · exact sf_decide0 ho (br_t h13 (sf_L290 R hx h8 h9 rfl H))
  · refine sf_decide R hq (fun pl sc te co b7 b8 b9 b10 b11 b12 b13 b14 b15 b16 b17 b18 b19 R' => br_f h13 ?_)
    rcases hh with ⟨z, w⟩ | ⟨z, w⟩
    · exact br_f z (sf_L290 R' hx h8 h9 (if_pos w) H)
    · rcases hs with ⟨s1, s2⟩ | ⟨s1, s2⟩
      · exact br_t z (br_t s1 (sf_L290 R' hx h8 h9 ((if_neg w).trans s2) H))
      · exact br_t z (br_f s1 (sf_L290 R' hx h8 h9 ((if_neg w).trans s2) H))
theorem sf_L227 (R : sf_R m f l x3 sd c st pl sc te co a1 a2 a3 a6 a10 a11 a12 a13 a14 a15 a16 a17) (hx : x11 = nI m) (h8 : x8 = nI f) (h9 : x9 = nI l) (hs : (x12 = 0 ∧ sd = 0) ∨ (¬ x12 = 0 ∧ sd = x0))
    (hc : (z0 = 0 ∧ (x4 < 0 ∨ 31 < x4)) ∨ (¬ z0 = 0 ∧ ∃ q, q < 32 ∧ x4 = nI q)) (H : post 1 ()) : wL_lawOf_227 post mc ms x0 x3 x4 x8 x9 x11 x12 z0 kc ks df dl c st pl sc te co a1 a2 a3 a4 a5 a6 a7 a8 a9 a10 a11 a12 a13 a14 a15 a16 a17 a18 a19 a20 a21 a22 a23 := by
  have k253 : ∀ z : Int32, (∀ q, q < 32 → x4 = nI q → ((¬ z = 0 ∧ m = 1 ∧ f ≤ q ∧ q ≤ l) ∨ (z = 0 ∧ ¬ (m = 1 ∧ f ≤ q ∧ q ≤ l)))) → wL_lawOf_253 post mc ms x0 x3 x4 x8 x9 x11 x12 z0 z kc ks df dl c st pl sc te co a1 a2 a3 a4 a5 a6 a7 a8 a9 a10 a11 a12 a13 a14 a15 a16 a17 a18 a19 a20 a21 a22 a23 := by
    intro z hz
    refine sf_L253 R hx h8 h9 hs ?_ H
    rcases hc with h | ⟨h, q, hq, e⟩
    · exact Or.inl h
    · exact Or.inr ⟨h, q, hq, e, hz q hq e⟩
  have hm := R.1
  have hf := R.2.1
  have hl := R.2.2.1
  unfold wL_lawOf_227
  by_cases h1 : m = 1
  · refine br_f (by rw [hx, h1]; decide) (br_c (fun g => k253 0 (fun q hq e => Or.inr ⟨rfl, ?_⟩)) (fun g => br_c (fun g2 => k253 0 (fun q hq e => Or.inr ⟨rfl, ?_⟩)) (fun g2 => k253 1 (fun q hq e => Or.inl ⟨by decide, h1, ?_, ?_⟩))))
    · rw [e, h8, nI_ltI (by omega) (by omega)] at g; omega
    · rw [e, h9, nI_ltI (by omega) (by omega)] at g2; omega
    · rw [e, h8, nI_ltI (by omega) (by omega)] at g; omega
    · rw [e, h9, nI_ltI (by omega) (by omega)] at g2; omega
  · have h2 : m = 0 := by omega
    exact br_t (by rw [hx, h2]; decide) (k253 0 (fun q hq e => Or.inr ⟨rfl, fun z => h1 z.1⟩))
theorem sf_L205 (R : sf_R m f l x3 sd c st pl sc te co a1 a2 a3 a6 a10 a11 a12 a13 a14 a15 a16 a17) (hx : x11 = nI m) (h8 : x8 = nI f) (h9 : x9 = nI l) (hs : (x12 = 0 ∧ sd = 0) ∨ (¬ x12 = 0 ∧ sd = x0))
    (hz : z1 = z0) (H : post 1 ()) : wL_lawOf_205 post mc ms x0 x3 x4 x8 x9 x11 x12 z0 z1 kc ks df dl c st pl sc te co a1 a2 a3 a4 a5 a6 a7 a8 a9 a10 a11 a12 a13 a14 a15 a16 a17 a18 a19 a20 a21 a22 a23 := by
  unfold wL_lawOf_205
  exact br_t hz (br_c (fun g => sf_L227 R hx h8 h9 hs (Or.inl ⟨rfl, Or.inl g⟩) H) (fun g => br_c (fun g2 => sf_L227 R hx h8 h9 hs (Or.inl ⟨rfl, Or.inr g2⟩) H) (fun g2 => sf_L227 R hx h8 h9 hs (Or.inr ⟨by decide, sf_n32 g g2⟩) H)))
theorem sf_L187 (R : sf_R m f l x3 0 c st pl sc te co a1 a2 a3 a6 a10 a11 a12 a13 a14 a15 a16 a17) (hx : x11 = nI m) (h8 : x8 = nI f) (h9 : x9 = nI l)
    (ho : (z0 = 0 ∧ (x0 < 0 ∨ 3 < x0)) ∨ (¬ z0 = 0 ∧ ¬ x0 < 0 ∧ ¬ 3 < x0)) (H : post 1 ()) : wL_lawOf_187 post mc ms x0 x3 x4 x8 x9 x11 z0 kc ks df dl c st pl sc te co a1 a2 a3 a4 a5 a6 a7 a8 a9 a10 a11 a12 a13 a14 a15 a16 a17 a18 a19 a20 a21 a22 a23 := by
  unfold wL_lawOf_187
  unfold wpX_fallback
  rcases ho with ⟨h, g⟩ | ⟨h, g1, g2⟩
  · exact sf_act0 g (br_t rfl (br_t h (sf_L205 R hx h8 h9 (Or.inl ⟨h, rfl⟩) rfl H)))
  · obtain ⟨r1, r2, r3, r4, r5, r6, r7⟩ := R
    exact sf_act1 g1 g2 (br_f (by decide) (br_f h (sf_L205 (sd := x0) ⟨r1, r2, r3, r4, rfl, r6, r7⟩ hx h8 h9 (Or.inr ⟨h, rfl⟩) r5 H)))
theorem sf_L168 (R : sf_R m f l x3 0 c st pl sc te co a1 a2 a3 a6 a10 a11 a12 a13 a14 a15 a16 a17) (hx : x11 = nI m) (h8 : x8 = nI f) (h9 : x9 = nI l)
    (hz : z1 = z0) (H : post 1 ()) : wL_lawOf_168 post mc ms x0 x3 x4 x8 x9 x11 z0 z1 kc ks df dl c st pl sc te co a1 a2 a3 a4 a5 a6 a7 a8 a9 a10 a11 a12 a13 a14 a15 a16 a17 a18 a19 a20 a21 a22 a23 := by
  unfold wL_lawOf_168
  exact br_t hz (br_c (fun g => sf_L187 R hx h8 h9 (Or.inl ⟨rfl, Or.inl g⟩) H) (fun g => br_c (fun g2 => sf_L187 R hx h8 h9 (Or.inl ⟨rfl, Or.inr g2⟩) H) (fun g2 => sf_L187 R hx h8 h9 (Or.inr ⟨by decide, g, g2⟩) H)))
/-- the object before put -/
def sf_I (f l : Nat) (df dl c st co : Int32) (a21 : Nat → Int32) : Prop := f ≤ l ∧ l < 32 ∧ df = nI f ∧ dl = nI l ∧ c = 0 ∧ st = 0 ∧ co = 0 ∧ a21 0 = 0 ∧ a21 1 = 0
theorem sf_L140 (I : sf_I f l df dl c st co a21) (h8 : x8 = nI f) (h9 : x9 = nI l) (hi : (x2 = 0 ∧ ¬ x10 = 0 ∧ ¬ x3 < 0 ∧ ¬ 3 < x3 ∧ z0 = nI 1) ∨ (x2 = 0 ∧ x10 = 0 ∧ (x3 < 0 ∨ 3 < x3) ∧ z0 = nI 0) ∨ (¬ x2 = 0 ∧ z0 = nI 0))
    (H : post 1 ()) : wL_lawOf_140 post mc ms x0 x2 x3 x4 x8 x9 x10 z0 kc ks df dl c st pl sc te co a1 a2 a3 a4 a5 a6 a7 a8 a9 a10 a11 a12 a13 a14 a15 a16 a17 a18 a19 a20 a21 a22 a23 := by
  obtain ⟨hf, hl, rfl, rfl, rfl, rfl, rfl, h21, h21'⟩ := I
  have R0 : sf_R 0 f l x3 0 0 0 pl sc te 0 a1 a2 a3 a6 a10 a11 a12 a13 a14 a15 a16 a17 := ⟨by omega, hf, hl, rfl, rfl, fun z => absurd z (by omega), Or.inl rfl⟩
  unfold wL_lawOf_140
  rcases hi with ⟨e2, e10, g1, g2, hz⟩ | ⟨e2, e10, g, hz⟩ | ⟨e2, hz⟩
  · subst e2
    exact sf_put g1 g2 h21 h21' (fun b1 b2 b3 b4 b5 b6 k1 k2 k6 k3 k3' => br_t rfl (br_f e10 (sf_L168 (m := 1) ⟨by omega, hf, hl, rfl, rfl, fun _ => ⟨k1, k2, k6, k3, k3'⟩, Or.inl rfl⟩ hz h8 h9 rfl H)))
  · subst e2
    exact br_f (by decide) (br_t (by decide) (sf_act0 g (br_t rfl (br_t rfl (br_t e10 (sf_L168 R0 hz h8 h9 rfl H))))))
  · refine br_c (fun _ => br_f e2 (sf_L168 R0 hz h8 h9 rfl H)) (fun g => br_f ?_ (br_f e2 (sf_L168 R0 hz h8 h9 rfl H)))
    intro w
    exact e2 (Int32.le_antisymm w (Int32.not_lt.mp g))
theorem sf_L124 (I : sf_I f l df dl c st co a21) (h8 : x8 = nI f) (h9 : x9 = nI l) (hg : (z0 = 0 ∧ (x3 < 0 ∨ 3 < x3)) ∨ (¬ z0 = 0 ∧ ¬ x3 < 0 ∧ ¬ 3 < x3)) (H : post 1 ()) : wL_lawOf_124 post mc ms x0 x2 x3 x4 x8 x9 z0 kc ks df dl c st pl sc te co a1 a2 a3 a4 a5 a6 a7 a8 a9 a10 a11 a12 a13 a14 a15 a16 a17 a18 a19 a20 a21 a22 a23 := by
  unfold wL_lawOf_124
  refine br_c (fun e2 => ?_) (fun e2 => sf_L140 I h8 h9 (Or.inr (Or.inr ⟨e2, rfl⟩)) H)
  rcases hg with ⟨e, g⟩ | ⟨e, g1, g2⟩
  · exact br_t e (sf_L140 I h8 h9 (Or.inr (Or.inl ⟨e2, e, g, rfl⟩)) H)
  · exact br_f e (sf_L140 I h8 h9 (Or.inl ⟨e2, e, g1, g2, rfl⟩) H)
theorem sf_L108 (I : sf_I f l df dl c st co a21) (h8 : x8 = nI f) (h9 : z0 = nI l) (H : post 1 ()) : wL_lawOf_108 post mc ms x0 x2 x3 x4 x8 z0 kc ks df dl c st pl sc te co a1 a2 a3 a4 a5 a6 a7 a8 a9 a10 a11 a12 a13 a14 a15 a16 a17 a18 a19 a20 a21 a22 a23 := by
  unfold wL_lawOf_108
  exact br_c (fun g => sf_L124 I h8 h9 (Or.inl ⟨rfl, Or.inl g⟩) H) (fun g => br_c (fun g2 => sf_L124 I h8 h9 (Or.inl ⟨rfl, Or.inr g2⟩) H) (fun g2 => sf_L124 I h8 h9 (Or.inr ⟨by decide, g, g2⟩) H))
theorem sf_L80 (I : sf_I f l df dl c st co a21) (h7 : (x7 = 0 ∧ f = 0 ∧ l = 31) ∨ (¬ x7 = 0 ∧ x0 = nI f ∧ x1 = nI l)) (hz : z1 = z0) (H : post 1 ()) : wL_lawOf_80 post mc ms x0 x1 x2 x3 x4 x7 z0 z1 kc ks df dl c st pl sc te co a1 a2 a3 a4 a5 a6 a7 a8 a9 a10 a11 a12 a13 a14 a15 a16 a17 a18 a19 a20 a21 a22 a23 := by
  unfold wL_lawOf_80
  refine br_t hz ?_
  rcases h7 with ⟨e, ef, el⟩ | ⟨e, e0, e1⟩
  · subst ef el
    exact br_t e (br_t e (sf_L108 I rfl rfl H))
  · exact br_f e (br_f e (sf_L108 I e0 e1 H))
theorem sf_L51 (I : sf_I 0 31 df dl c st co a21) (hn : (x6 = 0 ∧ z0 = 0 ∧ ((x0 < 0 ∨ 31 < x0) ∨ ((∃ q, q < 32 ∧ x0 = nI q) ∧ (x1 < 0 ∨ 31 < x1)))) ∨ (¬ x6 = 0 ∧ ∃ p q, p < 32 ∧ q < 32 ∧ x0 = nI p ∧ x1 = nI q ∧ ((z0 = 0 ∧ q < p) ∨ (¬ z0 = 0 ∧ p ≤ q))))
    (H : post 1 ()) : wL_lawOf_51 post mc ms x0 x1 x2 x3 x4 x6 z0 kc ks df dl c st pl sc te co a1 a2 a3 a4 a5 a6 a7 a8 a9 a10 a11 a12 a13 a14 a15 a16 a17 a18 a19 a20 a21 a22 a23 := by
  unfold wL_lawOf_51
  unfold wpX_range
  rcases hn with ⟨e6, ez, g⟩ | ⟨e6, p, q, hp, hq, e0, e1, g⟩
  · rcases g with g | ⟨⟨q, hq, e0⟩, g⟩
    · exact sf_num0 g (br_t rfl (br_t e6 (sf_L80 I (Or.inl ⟨ez, rfl, rfl⟩) rfl H)))
    · subst e0
      exact sf_num hq (br_f (by decide) (sf_num0 g (br_t rfl (br_t e6 (sf_L80 I (Or.inl ⟨ez, rfl, rfl⟩) rfl H)))))
  · subst e0 e1
    refine sf_num hp (br_f (by decide) (sf_num hq (br_f (by decide) ?_)))
    obtain ⟨i1, i2, i3, i4, i5⟩ := I
    rcases g with ⟨ez, g⟩ | ⟨ez, g⟩
    · exact pk_le p q (fun z => absurd z (by omega)) (fun _ => br_f e6 (br_t ez (sf_L80 ⟨i1, i2, i3, i4, i5⟩ (Or.inl ⟨ez, rfl, rfl⟩) rfl H)))
    · exact pk_le p q (fun _ => br_f e6 (br_f ez (sf_L80 (f := p) (l := q) ⟨g, hq, rfl, rfl, i5⟩ (Or.inr ⟨ez, rfl, rfl⟩) rfl H))) (fun z => absurd z (by omega))
theorem sf_L34n (I : sf_I 0 31 df dl c st co a21) (h : (x0 < 0 ∨ 31 < x0) ∨ ((∃ q, q < 32 ∧ x0 = nI q) ∧ (x1 < 0 ∨ 31 < x1))) (H : post 1 ()) : wL_lawOf_33 post mc ms x0 x1 x2 x3 x4 kc ks df dl c st pl sc te co a1 a2 a3 a4 a5 a6 a7 a8 a9 a10 a11 a12 a13 a14 a15 a16 a17 a18 a19 a20 a21 a22 a23 := by
  unfold wL_lawOf_33
  unfold wL_lawOf_34
  exact br_t rfl (sf_L51 I (Or.inl ⟨rfl, rfl, h⟩) H)
theorem sf_L34 (I : sf_I 0 31 df dl c st co a21) (h0 : ∃ q, q < 32 ∧ x0 = nI q) (h1 : ∃ q, q < 32 ∧ x1 = nI q) (H : post 1 ()) : wL_lawOf_34 post mc ms x0 x1 x2 x3 x4 1 kc ks df dl c st pl sc te co a1 a2 a3 a4 a5 a6 a7 a8 a9 a10 a11 a12 a13 a14 a15 a16 a17 a18 a19 a20 a21 a22 a23 := by
  obtain ⟨p, hp, rfl⟩ := h0
  obtain ⟨q, hq, rfl⟩ := h1
  unfold wL_lawOf_34
  exact br_f (by decide) (pk_lt q p (fun z => sf_L51 I (Or.inr ⟨by decide, p, q, hp, hq, rfl, rfl, Or.inl ⟨rfl, z⟩⟩) H) (fun z => sf_L51 I (Or.inr ⟨by decide, p, q, hp, hq, rfl, rfl, Or.inr ⟨by decide, z⟩⟩) H))
end
theorem sf_lawOf {post : Int32 → St0 → Prop} {p0 p1 p2 p3 p4 : Int32} (H : post 1 ()) : wpL_lawOf post 764 12208 () p0 p1 p2 p3 p4 := by
  unfold wpL_lawOf
  refine ⟨by omega, by omega, 23, 1414, by omega, by omega, ?_⟩
  unfold wpX_init
  refine ⟨by omega, by omega, by omega, by omega, by omega, by omega, by omega, by omega, by omega, by omega, by omega, by omega, by omega, by omega, by omega, by omega, by omega, by omega, by omega, by omega, by omega, by omega, by omega, by omega, by omega, by omega, by omega, by omega, by omega, by omega, by omega, by omega, by omega, by omega, by omega, by omega, by omega, by omega, by omega, by omega, by omega, by omega, by omega, by omega, by omega, by omega, ?_⟩
  have I : sf_I 0 31 0 31 0 0 0 (fun _ => 0) := ⟨by omega, by omega, rfl, rfl, rfl, rfl, rfl, rfl, rfl⟩
  exact br_c (fun g => sf_L34n I (Or.inl (Or.inl g)) H) (fun g => br_c (fun g2 => sf_L34n I (Or.inl (Or.inr g2)) H) (fun g2 =>
    br_c (fun k => sf_L34n I (Or.inr ⟨sf_n32 g g2, Or.inl k⟩) H) (fun k => br_c (fun k2 => sf_L34n I (Or.inr ⟨sf_n32 g g2, Or.inr k2⟩) H) (fun k2 => sf_L34 I (sf_n32 g g2) (sf_n32 k k2) H))))
theorem sf_cell {post : Int32 → Prop} {L k : Nat} {xs : Nat → Int32} (hL : L ≤ 5) (hk : k < 5) (H : ∀ v, post v) : wpL_cellAt post L xs () (nI k) :=
  pk_le L k (fun _ => H 0) (fun z => ⟨pk_in k L z, H _⟩)
end
end
section
theorem i_vc (xs : Nat → Int32) (L : Nat) (hL : L ≤ 5) : wpL_law (fun r => r = 1) L xs := by
  unfold wpL_law
  exact sf_cell (k := 0) hL (by omega) (fun _ => sf_cell (k := 1) hL (by omega) (fun _ => sf_cell (k := 2) hL (by omega) (fun _ => sf_cell (k := 3) hL (by omega) (fun _ => sf_cell (k := 4) hL (by omega) (fun _ => ⟨764, 12208, by omega, by omega, sf_lawOf rfl⟩)))))
end
