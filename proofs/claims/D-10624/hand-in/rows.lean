section
/-! the picture: two cost vectors, the list of those found, the one rule -/
def tc_vec (l c : Nat) (b : Bool) (e : Nat) : Int32 := if b = true then (if e = 4 then 0 else if e = l then nI c else 1000000) else 1000000
def tc_add (L : List Bool) (b : Bool) : List Bool := if b ∈ L then L else L ++ [b]
def tc_hit (k o p : Nat) : Bool := decide (k = 3 ∧ o = p)
/-- the rule as layOut leaves it: k its kind (0: none) -/
def tc_cfg (k l c o g nE : Nat) (ru en : Int32) (a3 a4 a12 a13 a15 : Nat → Int32) : Prop :=
  (k = 0 ∧ nE = 4 ∧ ru = nI 0 ∧ en = nI nE) ∨
  (ru = nI 1 ∧ en = nI nE ∧ l < 4 ∧ c ≤ 9 ∧ a3 0 = nI l ∧ a4 0 = nI c ∧
    ((k = 1 ∧ nE = 4 ∧ g < 4 ∧ a15 0 = nI g) ∨
     (k = 2 ∧ nE = 5 ∧ g < 4 ∧ 2 ≤ o ∧ o < 4 ∧ a15 0 = nI 4 ∧ a12 4 = nI o ∧ a13 4 = nI g) ∨
     (k = 3 ∧ nE = 5 ∧ o < 2 ∧ a15 0 = nI 4 ∧ a12 4 = nI o)))
/-- the state table holds the vectors of L -/
def tc_tab (l c nE : Nat) (L : List Bool) (a17 : Nat → Int32) : Prop := ∀ s b, L[s]? = some b → ∀ e, e < nE → a17 (74 * s + e) = tc_vec l c b e
theorem tc_vecF {l c e : Nat} : tc_vec l c false e = 1000000 := if_neg (by decide)
theorem tc_vec4 {l c : Nat} : tc_vec l c true 4 = 0 := by unfold tc_vec; rw [if_pos rfl, if_pos rfl]
theorem tc_vecl {l c : Nat} (h : l < 4) : tc_vec l c true l = nI c := by unfold tc_vec; rw [if_pos rfl, if_neg (by omega), if_pos rfl]
theorem tc_vecO {l c e : Nat} {b : Bool} (h : e ≠ 4) (h2 : e ≠ l) : tc_vec l c b e = 1000000 := by
  unfold tc_vec
  by_cases hb : b = true
  · rw [if_pos hb, if_neg h, if_neg h2]
  · rw [if_neg hb]
/-- every cost is a natural, FAR at most -/
theorem tc_vecN {l c : Nat} (hc : c ≤ 9) (b : Bool) (e : Nat) : ∃ m, m ≤ 1000000 ∧ tc_vec l c b e = nI m := by
  unfold tc_vec
  by_cases hb : b = true
  · rw [if_pos hb]
    by_cases h4 : e = 4
    · rw [if_pos h4]; exact ⟨0, by omega, rfl⟩
    · rw [if_neg h4]
      by_cases hl : e = l
      · rw [if_pos hl]; exact ⟨c, by omega, rfl⟩
      · rw [if_neg hl]; exact ⟨1000000, by omega, rfl⟩
  · rw [if_neg hb]; exact ⟨1000000, by omega, rfl⟩
theorem tc_vecNF {l c : Nat} (b : Bool) (hb : b = true → c ≤ 9) (e : Nat) : ∃ m, m ≤ 1000000 ∧ tc_vec l c b e = nI m := by
  cases b with
  | false => exact ⟨1000000, by omega, rfl⟩
  | true => exact tc_vecN (hb rfl) true e
theorem tc_cfg_en {k l c o g nE : Nat} {ru en : Int32} {a3 a4 a12 a13 a15 : Nat → Int32} (h : tc_cfg k l c o g nE ru en a3 a4 a12 a13 a15) : en = nI nE ∧ 4 ≤ nE ∧ nE ≤ 5 := by
  rcases h with ⟨_, h1, _, h2⟩ | ⟨_, h2, _, _, _, _, ⟨_, h1, _⟩ | ⟨_, h1, _⟩ | ⟨_, h1, _⟩⟩
  · exact ⟨h2, by omega, by omega⟩
  · exact ⟨h2, by omega, by omega⟩
  · exact ⟨h2, by omega, by omega⟩
  · exact ⟨h2, by omega, by omega⟩
theorem tc_cfg_3 {l c o g nE : Nat} {ru en : Int32} {a3 a4 a12 a13 a15 : Nat → Int32} (h : tc_cfg 3 l c o g nE ru en a3 a4 a12 a13 a15) : nE = 5 ∧ ru = nI 1 ∧ l < 4 ∧ c ≤ 9 ∧ a3 0 = nI l ∧ a4 0 = nI c ∧ o < 2 ∧ a15 0 = nI 4 ∧ a12 4 = nI o := by
  rcases h with ⟨h0, _⟩ | ⟨h1, _, hl, hc, h3, h4, ⟨h0, _⟩ | ⟨h0, _⟩ | ⟨_, h5, ho, h15, h12⟩⟩
  · omega
  · omega
  · omega
  · exact ⟨h5, h1, hl, hc, h3, h4, ho, h15, h12⟩
theorem tc_cl0 : (0 : Int32).toNatClampNeg = 0 := by decide
/-- a value written where it stood already -/
theorem tc_same {s v : Nat → Int32} {N k : Nat} {x : Int32} (h : ∀ e, e < N → s e = v e) (hx : x = v k) : ∀ e, e < N → upd s k x e = v e := by
  intro e he
  by_cases hk : e = k
  · rw [hk, pk_us, hx]
  · rw [pk_un hk]; exact h e he
theorem tc_fill {f s : Nat → Int32} {i k : Nat} {x : Int32} (hk : k = i) (h : ∀ j, j < i → s j = f j) (hx : x = f i) : ∀ j, j < i + 1 → upd s k x j = f j := by
  intro j hj
  rw [hk]
  by_cases e : j = i
  · rw [e, pk_us, hx]
  · rw [pk_un e]
    exact h j (by omega)
theorem tc_hitT {k o p : Nat} (h : tc_hit k o p = true) : k = 3 ∧ o = p := by
  unfold tc_hit at h
  exact of_decide_eq_true h
theorem tc_hitF {k o p : Nat} (h : ¬ (k = 3 ∧ o = p)) : tc_hit k o p = false := by
  unfold tc_hit
  exact decide_eq_false h
theorem tc_hitI {k o p : Nat} (h : k = 3 ∧ o = p) : tc_hit k o p = true := by
  unfold tc_hit
  exact decide_eq_true h
theorem tc_add_in {L : List Bool} {b : Bool} (h : b ∈ L) : tc_add L b = L := if_pos h
theorem tc_add_out {L : List Bool} {b : Bool} (h : ¬ b ∈ L) : tc_add L b = L ++ [b] := if_neg h
theorem tc_add_mem {L : List Bool} {b : Bool} : b ∈ tc_add L b := by
  unfold tc_add
  by_cases h : b ∈ L
  · rw [if_pos h]; exact h
  · rw [if_neg h]; exact List.mem_append_right L (List.mem_singleton.mpr rfl)
theorem tc_add_old {L : List Bool} {b x : Bool} (h : x ∈ L) : x ∈ tc_add L b := by
  unfold tc_add
  by_cases hb : b ∈ L
  · rw [if_pos hb]; exact h
  · rw [if_neg hb]; exact List.mem_append_left [b] h
theorem tc_add_len {L : List Bool} {b : Bool} : (tc_add L b).length ≤ L.length + 1 := by
  unfold tc_add
  by_cases hb : b ∈ L
  · rw [if_pos hb]; omega
  · rw [if_neg hb, List.length_append]; exact Nat.le_refl _
theorem tc_add_sub {L : List Bool} {b x : Bool} (h : x ∈ tc_add L b) : x ∈ L ∨ x = b := by
  unfold tc_add at h
  by_cases hb : b ∈ L
  · rw [if_pos hb] at h; exact Or.inl h
  · rw [if_neg hb] at h
    rcases List.mem_append.mp h with h | h
    · exact Or.inl h
    · exact Or.inr (List.mem_singleton.mp h)
end
section
section
variable {dr ph ru no th la en sc wh tm tl co wo fs wf ws : Int32} {a1 a2 a3 a4 a5 a6 a7 a8 a9 a10 a11 a12 a13 a14 a15 a16 a17 a18 a19 a20 a21 a22 a23 a24 a25 a26 a27 a28 a29 a30 a31 : Nat → Int32}
theorem tc_c4 : (4 : Int32).toNatClampNeg = 4 := by decide
theorem tc_ix (a i : Nat) : (74 * nI a + nI i : Int32) = nI (74 * a + i) := by
  show nI 74 * nI a + nI i = nI (74 * a + i)
  rw [pk_mul, nI_add]
theorem tc_uc48 {post : St2 → Prop} {J2 J9 : Int32 → (Nat → Int32) → (Nat → Int32) → (Nat → Int32) → (Nat → Int32) → (Nat → Int32) → (Nat → Int32) → (Nat → Int32) → (Nat → Int32) → (Nat → Int32) → (Nat → Int32) → (Nat → Int32) → (Nat → Int32) → (Nat → Int32) → (Nat → Int32) → (Nat → Int32) → (Nat → Int32) → (Nat → Int32) → (Nat → Int32) → (Nat → Int32) → (Nat → Int32) → (Nat → Int32) → (Nat → Int32) → (Nat → Int32) → (Nat → Int32) → (Nat → Int32) → (Nat → Int32) → (Nat → Int32) → (Nat → Int32) → (Nat → Int32) → (Nat → Int32) → (Nat → Int32) → Prop} {x1 z0 : Int32} {l : Nat} (hl : l < 74) (h3 : a3 0 = nI l)
    (Ht : a24 l ≤ z0 → J9 (0 + 1) a1 a2 a3 a4 a5 a6 a7 a8 a9 a10 a11 a12 a13 a14 a15 a16 a17 a18 a19 a20 a21 a22 a23 (upd a24 l (a24 l)) a25 a26 a27 a28 a29 a30 a31) (Hf : ¬ a24 l ≤ z0 → J9 (0 + 1) a1 a2 a3 a4 a5 a6 a7 a8 a9 a10 a11 a12 a13 a14 a15 a16 a17 a18 a19 a20 a21 a22 a23 (upd a24 l z0) a25 a26 a27 a28 a29 a30 a31) :
    wX_useChains_48 post J2 J9 x1 0 z0 dr ph ru no th la en sc wh tm tl co wo fs wf ws a1 a2 a3 a4 a5 a6 a7 a8 a9 a10 a11 a12 a13 a14 a15 a16 a17 a18 a19 a20 a21 a22 a23 a24 a25 a26 a27 a28 a29 a30 a31 := by
  unfold wX_useChains_48
  have e : (a3 (0 : Int32).toNatClampNeg).toNatClampNeg = l := by rw [tc_cl0, h3, nI_clamp (by omega)]
  have i : vp_in (a3 (0 : Int32).toNatClampNeg) 74 := by rw [tc_cl0, h3]; exact vp_in_nI hl (by omega)
  rw [e]
  exact ⟨pk_in 0 10 (by omega), pk_in 0 10 (by omega), i, br_c (fun z => ⟨pk_in 0 10 (by omega), i, i, nm_e (nm_e (Ht z))⟩) (fun z => ⟨i, nm_e (nm_e (Hf z))⟩)⟩
theorem tc_uc9F {post : St2 → Prop} {J2 : Int32 → (Nat → Int32) → (Nat → Int32) → (Nat → Int32) → (Nat → Int32) → (Nat → Int32) → (Nat → Int32) → (Nat → Int32) → (Nat → Int32) → (Nat → Int32) → (Nat → Int32) → (Nat → Int32) → (Nat → Int32) → (Nat → Int32) → (Nat → Int32) → (Nat → Int32) → (Nat → Int32) → (Nat → Int32) → (Nat → Int32) → (Nat → Int32) → (Nat → Int32) → (Nat → Int32) → (Nat → Int32) → (Nat → Int32) → (Nat → Int32) → (Nat → Int32) → (Nat → Int32) → (Nat → Int32) → (Nat → Int32) → (Nat → Int32) → (Nat → Int32) → (Nat → Int32) → Prop} {x1 : Int32} {k l c o g nE : Nat} (hc : tc_cfg k l c o g nE ru en a3 a4 a12 a13 a15) (h : ∀ e, e < nE → a24 e = 1000000)
    (H : ∀ a : Nat → Int32, (∀ e, e < nE → a e = 1000000) → J2 (x1 + 1) a1 a2 a3 a4 a5 a6 a7 a8 a9 a10 a11 a12 a13 a14 a15 a16 a17 a18 a19 a20 a21 a22 a23 a a25 a26 a27 a28 a29 a30 a31) : ∃ n, wX_useChains_9 post J2 x1 dr ph ru no th la en sc wh tm tl co wo fs wf ws n 0 a1 a2 a3 a4 a5 a6 a7 a8 a9 a10 a11 a12 a13 a14 a15 a16 a17 a18 a19 a20 a21 a22 a23 a24 a25 a26 a27 a28 a29 a30 a31 := by
  rcases hc with ⟨_, _, hr, _⟩ | ⟨hr, _, hl, _, h3, _, hk⟩
  · exact ⟨1, pk_le 0 0 (fun _ => nm_e (H _ h)) (fun z => absurd z (by omega)) hr⟩
  · obtain ⟨q, hq, hE, hE5, h15⟩ : ∃ q, q < nE ∧ 4 ≤ nE ∧ nE ≤ 5 ∧ a15 0 = nI q := by
      rcases hk with ⟨_, h1, hg, e⟩ | ⟨_, h1, _, _, _, e, _⟩ | ⟨_, h1, _, e, _⟩
      · exact ⟨g, by omega, by omega, by omega, e⟩
      · exact ⟨4, by omega, by omega, by omega, e⟩
      · exact ⟨4, by omega, by omega, by omega, e⟩
    have hf : a24 (a15 (0 : Int32).toNatClampNeg).toNatClampNeg = 1000000 := by rw [tc_cl0, h15, nI_clamp (by omega)]; exact h q hq
    have i15 : vp_in (a15 (0 : Int32).toNatClampNeg) 74 := by rw [tc_cl0, h15]; exact vp_in_nI (by omega) (by omega)
    have hL : a24 l = 1000000 := h l (by omega)
    refine ⟨2, pk_le 1 0 (fun z => absurd z (by omega)) (fun _ => ⟨pk_in 0 10 (by omega), i15, nm_r hf (br_f (by decide) ?_)⟩) hr⟩
    refine tc_uc48 (l := l) (by omega) h3 (fun _ => ?_) (fun z => absurd (by rw [hL]; decide) z)
    exact pk_le 1 1 (fun _ => nm_e (H _ (tc_same (v := fun _ => 1000000) h hL))) (fun z => absurd z (by omega)) hr (by decide)
theorem tc_uc9T {post : St2 → Prop} {J2 : Int32 → (Nat → Int32) → (Nat → Int32) → (Nat → Int32) → (Nat → Int32) → (Nat → Int32) → (Nat → Int32) → (Nat → Int32) → (Nat → Int32) → (Nat → Int32) → (Nat → Int32) → (Nat → Int32) → (Nat → Int32) → (Nat → Int32) → (Nat → Int32) → (Nat → Int32) → (Nat → Int32) → (Nat → Int32) → (Nat → Int32) → (Nat → Int32) → (Nat → Int32) → (Nat → Int32) → (Nat → Int32) → (Nat → Int32) → (Nat → Int32) → (Nat → Int32) → (Nat → Int32) → (Nat → Int32) → (Nat → Int32) → (Nat → Int32) → (Nat → Int32) → (Nat → Int32) → Prop} {x1 : Int32} {l c o g nE : Nat} (hc : tc_cfg 3 l c o g nE ru en a3 a4 a12 a13 a15) (h4 : a24 4 = 0) (hL : a24 l = 1000000 ∨ a24 l = nI c)
    (ho : ∀ e, e ≠ 4 → e ≠ l → e < 5 → a24 e = 1000000)
    (H : ∀ a : Nat → Int32, (∀ e, e < 5 → a e = tc_vec l c true e) → J2 (x1 + 1) a1 a2 a3 a4 a5 a6 a7 a8 a9 a10 a11 a12 a13 a14 a15 a16 a17 a18 a19 a20 a21 a22 a23 a a25 a26 a27 a28 a29 a30 a31) : ∃ n, wX_useChains_9 post J2 x1 dr ph ru no th la en sc wh tm tl co wo fs wf ws n 0 a1 a2 a3 a4 a5 a6 a7 a8 a9 a10 a11 a12 a13 a14 a15 a16 a17 a18 a19 a20 a21 a22 a23 a24 a25 a26 a27 a28 a29 a30 a31 := by
  obtain ⟨_, hr, hl, hcc, h3, ha4, _, h15, _⟩ := tc_cfg_3 hc
  have hf : a24 (a15 (0 : Int32).toNatClampNeg).toNatClampNeg = 0 := by rw [tc_cl0, h15, nI_clamp (by omega)]; exact h4
  have i15 : vp_in (a15 (0 : Int32).toNatClampNeg) 74 := by rw [tc_cl0, h15]; exact vp_in_nI (by omega) (by omega)
  have hz : (0 : Int32) + a4 (0 : Int32).toNatClampNeg = nI c := by
    rw [tc_cl0, ha4]
    show nI 0 + nI c = nI c
    rw [nI_add, Nat.zero_add]
  have hv : ∀ x : Int32, x = nI c → ∀ e, e < 5 → upd a24 l x e = tc_vec l c true e := by
    intro x hx e he
    by_cases e1 : e = l
    · rw [e1, pk_us, tc_vecl hl, hx]
    · rw [pk_un e1]
      by_cases e2 : e = 4
      · rw [e2, h4, tc_vec4]
      · rw [ho e e2 e1 he, tc_vecO e2 e1]
  refine ⟨2, pk_le 1 0 (fun z => absurd z (by omega)) (fun _ => ⟨pk_in 0 10 (by omega), i15, nm_r hf (br_t (by decide) ⟨pk_in 0 10 (by omega), ?_⟩)⟩) hr⟩
  rw [hz]
  refine tc_uc48 (l := l) (by omega) h3 (fun z => ?_) (fun z => ?_)
  · have hx : a24 l = nI c := by
      rcases hL with e | e
      · rw [e] at z
        exact absurd z (nI_ge (b := 1000000) (by omega) (by decide))
      · exact e
    exact pk_le 1 1 (fun _ => nm_e (H _ (hv _ hx))) (fun z => absurd z (by omega)) hr (by decide)
  · exact pk_le 1 1 (fun _ => nm_e (H _ (hv _ rfl))) (fun z => absurd z (by omega)) hr (by decide)
theorem tc_ucF {post : St2 → Prop} {k l c o g nE : Nat} (hc : tc_cfg k l c o g nE ru en a3 a4 a12 a13 a15) (h : ∀ e, e < nE → a24 e = 1000000)
    (H : ∀ a : Nat → Int32, (∀ e, e < nE → a e = 1000000) → post (dr, ph, ru, no, th, la, en, sc, wh, tm, tl, co, wo, fs, wf, ws, a1, a2, a3, a4, a5, a6, a7, a8, a9, a10, a11, a12, a13, a14, a15, a16, a17, a18, a19, a20, a21, a22, a23, a, a25, a26, a27, a28, a29, a30, a31)) : wpX_useChains post (dr, ph, ru, no, th, la, en, sc, wh, tm, tl, co, wo, fs, wf, ws, a1, a2, a3, a4, a5, a6, a7, a8, a9, a10, a11, a12, a13, a14, a15, a16, a17, a18, a19, a20, a21, a22, a23, a24, a25, a26, a27, a28, a29, a30, a31) := by
  unfold wpX_useChains
  exact pk_loop (fun n i s => wX_useChains_2 post dr ph ru no th la en sc wh tm tl co wo fs wf ws n (nI i) a1 a2 a3 a4 a5 a6 a7 a8 a9 a10 a11 a12 a13 a14 a15 a16 a17 a18 a19 a20 a21 a22 a23 s a25 a26 a27 a28 a29 a30 a31) (fun _ s => ∀ e, e < nE → s e = 1000000) 5 0 a24 (by omega) h
    (fun n s hs => pk_le 5 5 (fun _ => H s hs) (fun z => absurd z (by omega)))
    (fun n i s hi hs hw => pk_le 5 i (fun z => absurd z (by omega)) (fun _ => tc_uc9F hc hs (fun a ha => ek_v (P := fun x => wX_useChains_2 post dr ph ru no th la en sc wh tm tl co wo fs wf ws n x a1 a2 a3 a4 a5 a6 a7 a8 a9 a10 a11 a12 a13 a14 a15 a16 a17 a18 a19 a20 a21 a22 a23 a a25 a26 a27 a28 a29 a30 a31) (nI_1 i) (hw a ha))))
theorem tc_ucT {post : St2 → Prop} {l c o g nE : Nat} (hc : tc_cfg 3 l c o g nE ru en a3 a4 a12 a13 a15) (h : ∀ e, e < 5 → a24 e = if e = 4 then 0 else 1000000)
    (H : ∀ a : Nat → Int32, (∀ e, e < 5 → a e = tc_vec l c true e) → post (dr, ph, ru, no, th, la, en, sc, wh, tm, tl, co, wo, fs, wf, ws, a1, a2, a3, a4, a5, a6, a7, a8, a9, a10, a11, a12, a13, a14, a15, a16, a17, a18, a19, a20, a21, a22, a23, a, a25, a26, a27, a28, a29, a30, a31)) : wpX_useChains post (dr, ph, ru, no, th, la, en, sc, wh, tm, tl, co, wo, fs, wf, ws, a1, a2, a3, a4, a5, a6, a7, a8, a9, a10, a11, a12, a13, a14, a15, a16, a17, a18, a19, a20, a21, a22, a23, a24, a25, a26, a27, a28, a29, a30, a31) := by
  have hl : l < 4 := (tc_cfg_3 hc).2.2.1
  unfold wpX_useChains
  exact pk_loop (fun n i s => wX_useChains_2 post dr ph ru no th la en sc wh tm tl co wo fs wf ws n (nI i) a1 a2 a3 a4 a5 a6 a7 a8 a9 a10 a11 a12 a13 a14 a15 a16 a17 a18 a19 a20 a21 a22 a23 s a25 a26 a27 a28 a29 a30 a31) (fun i s => (s 4 = 0 ∧ (s l = 1000000 ∨ s l = nI c) ∧ ∀ e, e ≠ 4 → e ≠ l → e < 5 → s e = 1000000) ∧ (0 < i → ∀ e, e < 5 → s e = tc_vec l c true e)) 5 0 a24 (by omega)
    ⟨⟨h 4 (by omega), Or.inl (by rw [h l (by omega), if_neg (by omega)]), fun e e4 _ he => by rw [h e he, if_neg e4]⟩, fun z => absurd z (by omega)⟩
    (fun n s hs => pk_le 5 5 (fun _ => H s (hs.2 (by omega))) (fun z => absurd z (by omega)))
    (fun n i s hi hs hw => pk_le 5 i (fun z => absurd z (by omega)) (fun _ => tc_uc9T hc hs.1.1 hs.1.2.1 hs.1.2.2 (fun a ha => ek_v (P := fun x => wX_useChains_2 post dr ph ru no th la en sc wh tm tl co wo fs wf ws n x a1 a2 a3 a4 a5 a6 a7 a8 a9 a10 a11 a12 a13 a14 a15 a16 a17 a18 a19 a20 a21 a22 a23 a a25 a26 a27 a28 a29 a30 a31) (nI_1 i) (hw a ⟨⟨by rw [ha 4 (by omega), tc_vec4], Or.inr (by rw [ha l (by omega), tc_vecl hl]), fun e e4 el he => by rw [ha e he, tc_vecO e4 el]⟩, fun _ => ha⟩))))
theorem tc_uc {post : St2 → Prop} {k l c o g nE : Nat} {b : Bool} (hc : tc_cfg k l c o g nE ru en a3 a4 a12 a13 a15) (hb : b = true → k = 3) (h : ∀ e, e < nE → a24 e = if b = true ∧ e = 4 then 0 else 1000000)
    (H : ∀ a : Nat → Int32, (∀ e, e < nE → a e = tc_vec l c b e) → post (dr, ph, ru, no, th, la, en, sc, wh, tm, tl, co, wo, fs, wf, ws, a1, a2, a3, a4, a5, a6, a7, a8, a9, a10, a11, a12, a13, a14, a15, a16, a17, a18, a19, a20, a21, a22, a23, a, a25, a26, a27, a28, a29, a30, a31)) : wpX_useChains post (dr, ph, ru, no, th, la, en, sc, wh, tm, tl, co, wo, fs, wf, ws, a1, a2, a3, a4, a5, a6, a7, a8, a9, a10, a11, a12, a13, a14, a15, a16, a17, a18, a19, a20, a21, a22, a23, a24, a25, a26, a27, a28, a29, a30, a31) := by
  cases b with
  | false => exact tc_ucF hc (fun e he => by rw [h e he, if_neg (by simp)]) (fun a ha => H a (fun e he => by rw [ha e he, tc_vecF]))
  | true =>
    have hk := hb rfl
    subst hk
    have h5 : nE = 5 := (tc_cfg_3 hc).1
    subst h5
    exact tc_ucT hc (fun e he => by rw [h e he]; simp) H
theorem tc_uc48_2 {post : St2 → Prop} {J2 J9 : Int32 → (Nat → Int32) → (Nat → Int32) → (Nat → Int32) → (Nat → Int32) → (Nat → Int32) → (Nat → Int32) → (Nat → Int32) → (Nat → Int32) → (Nat → Int32) → (Nat → Int32) → (Nat → Int32) → (Nat → Int32) → (Nat → Int32) → (Nat → Int32) → (Nat → Int32) → (Nat → Int32) → (Nat → Int32) → (Nat → Int32) → (Nat → Int32) → (Nat → Int32) → (Nat → Int32) → (Nat → Int32) → (Nat → Int32) → (Nat → Int32) → (Nat → Int32) → (Nat → Int32) → (Nat → Int32) → (Nat → Int32) → (Nat → Int32) → (Nat → Int32) → (Nat → Int32) → Prop} {x1 z0 : Int32} {l : Nat} (hl : l < 74) (h3 : a3 0 = nI l)
    (Ht : a24 l ≤ z0 → J9 (0 + 1) a1 a2 a3 a4 a5 a6 a7 a8 a9 a10 a11 a12 a13 a14 a15 a16 a17 a18 a19 a20 a21 a22 a23 (upd a24 l (a24 l)) a25 a26 a27 a28 a29 a30 a31) (Hf : ¬ a24 l ≤ z0 → J9 (0 + 1) a1 a2 a3 a4 a5 a6 a7 a8 a9 a10 a11 a12 a13 a14 a15 a16 a17 a18 a19 a20 a21 a22 a23 (upd a24 l z0) a25 a26 a27 a28 a29 a30 a31) :
    wX_useChains_2_48 post J2 J9 x1 0 z0 dr ph ru no th la en sc wh tm tl co wo fs wf ws a1 a2 a3 a4 a5 a6 a7 a8 a9 a10 a11 a12 a13 a14 a15 a16 a17 a18 a19 a20 a21 a22 a23 a24 a25 a26 a27 a28 a29 a30 a31 := by
  unfold wX_useChains_2_48
  have e : (a3 (0 : Int32).toNatClampNeg).toNatClampNeg = l := by rw [tc_cl0, h3, nI_clamp (by omega)]
  have i : vp_in (a3 (0 : Int32).toNatClampNeg) 74 := by rw [tc_cl0, h3]; exact vp_in_nI hl (by omega)
  rw [e]
  exact ⟨pk_in 0 10 (by omega), pk_in 0 10 (by omega), i, br_c (fun z => ⟨pk_in 0 10 (by omega), i, i, nm_e (nm_e (Ht z))⟩) (fun z => ⟨i, nm_e (nm_e (Hf z))⟩)⟩
theorem tc_uc9F_2 {post : St2 → Prop} {J2 : Int32 → (Nat → Int32) → (Nat → Int32) → (Nat → Int32) → (Nat → Int32) → (Nat → Int32) → (Nat → Int32) → (Nat → Int32) → (Nat → Int32) → (Nat → Int32) → (Nat → Int32) → (Nat → Int32) → (Nat → Int32) → (Nat → Int32) → (Nat → Int32) → (Nat → Int32) → (Nat → Int32) → (Nat → Int32) → (Nat → Int32) → (Nat → Int32) → (Nat → Int32) → (Nat → Int32) → (Nat → Int32) → (Nat → Int32) → (Nat → Int32) → (Nat → Int32) → (Nat → Int32) → (Nat → Int32) → (Nat → Int32) → (Nat → Int32) → (Nat → Int32) → (Nat → Int32) → Prop} {x1 : Int32} {k l c o g nE : Nat} (hc : tc_cfg k l c o g nE ru en a3 a4 a12 a13 a15) (h : ∀ e, e < nE → a24 e = 1000000)
    (H : ∀ a : Nat → Int32, (∀ e, e < nE → a e = 1000000) → J2 (x1 + 1) a1 a2 a3 a4 a5 a6 a7 a8 a9 a10 a11 a12 a13 a14 a15 a16 a17 a18 a19 a20 a21 a22 a23 a a25 a26 a27 a28 a29 a30 a31) : ∃ n, wX_useChains_2_9 post J2 x1 dr ph ru no th la en sc wh tm tl co wo fs wf ws n 0 a1 a2 a3 a4 a5 a6 a7 a8 a9 a10 a11 a12 a13 a14 a15 a16 a17 a18 a19 a20 a21 a22 a23 a24 a25 a26 a27 a28 a29 a30 a31 := by
  rcases hc with ⟨_, _, hr, _⟩ | ⟨hr, _, hl, _, h3, _, hk⟩
  · exact ⟨1, pk_le 0 0 (fun _ => nm_e (H _ h)) (fun z => absurd z (by omega)) hr⟩
  · obtain ⟨q, hq, hE, hE5, h15⟩ : ∃ q, q < nE ∧ 4 ≤ nE ∧ nE ≤ 5 ∧ a15 0 = nI q := by
      rcases hk with ⟨_, h1, hg, e⟩ | ⟨_, h1, _, _, _, e, _⟩ | ⟨_, h1, _, e, _⟩
      · exact ⟨g, by omega, by omega, by omega, e⟩
      · exact ⟨4, by omega, by omega, by omega, e⟩
      · exact ⟨4, by omega, by omega, by omega, e⟩
    have hf : a24 (a15 (0 : Int32).toNatClampNeg).toNatClampNeg = 1000000 := by rw [tc_cl0, h15, nI_clamp (by omega)]; exact h q hq
    have i15 : vp_in (a15 (0 : Int32).toNatClampNeg) 74 := by rw [tc_cl0, h15]; exact vp_in_nI (by omega) (by omega)
    have hL : a24 l = 1000000 := h l (by omega)
    refine ⟨2, pk_le 1 0 (fun z => absurd z (by omega)) (fun _ => ⟨pk_in 0 10 (by omega), i15, nm_r hf (br_f (by decide) ?_)⟩) hr⟩
    refine tc_uc48_2 (l := l) (by omega) h3 (fun _ => ?_) (fun z => absurd (by rw [hL]; decide) z)
    exact pk_le 1 1 (fun _ => nm_e (H _ (tc_same (v := fun _ => 1000000) h hL))) (fun z => absurd z (by omega)) hr (by decide)
theorem tc_uc9T_2 {post : St2 → Prop} {J2 : Int32 → (Nat → Int32) → (Nat → Int32) → (Nat → Int32) → (Nat → Int32) → (Nat → Int32) → (Nat → Int32) → (Nat → Int32) → (Nat → Int32) → (Nat → Int32) → (Nat → Int32) → (Nat → Int32) → (Nat → Int32) → (Nat → Int32) → (Nat → Int32) → (Nat → Int32) → (Nat → Int32) → (Nat → Int32) → (Nat → Int32) → (Nat → Int32) → (Nat → Int32) → (Nat → Int32) → (Nat → Int32) → (Nat → Int32) → (Nat → Int32) → (Nat → Int32) → (Nat → Int32) → (Nat → Int32) → (Nat → Int32) → (Nat → Int32) → (Nat → Int32) → (Nat → Int32) → Prop} {x1 : Int32} {l c o g nE : Nat} (hc : tc_cfg 3 l c o g nE ru en a3 a4 a12 a13 a15) (h4 : a24 4 = 0) (hL : a24 l = 1000000 ∨ a24 l = nI c)
    (ho : ∀ e, e ≠ 4 → e ≠ l → e < 5 → a24 e = 1000000)
    (H : ∀ a : Nat → Int32, (∀ e, e < 5 → a e = tc_vec l c true e) → J2 (x1 + 1) a1 a2 a3 a4 a5 a6 a7 a8 a9 a10 a11 a12 a13 a14 a15 a16 a17 a18 a19 a20 a21 a22 a23 a a25 a26 a27 a28 a29 a30 a31) : ∃ n, wX_useChains_2_9 post J2 x1 dr ph ru no th la en sc wh tm tl co wo fs wf ws n 0 a1 a2 a3 a4 a5 a6 a7 a8 a9 a10 a11 a12 a13 a14 a15 a16 a17 a18 a19 a20 a21 a22 a23 a24 a25 a26 a27 a28 a29 a30 a31 := by
  obtain ⟨_, hr, hl, hcc, h3, ha4, _, h15, _⟩ := tc_cfg_3 hc
  have hf : a24 (a15 (0 : Int32).toNatClampNeg).toNatClampNeg = 0 := by rw [tc_cl0, h15, nI_clamp (by omega)]; exact h4
  have i15 : vp_in (a15 (0 : Int32).toNatClampNeg) 74 := by rw [tc_cl0, h15]; exact vp_in_nI (by omega) (by omega)
  have hz : (0 : Int32) + a4 (0 : Int32).toNatClampNeg = nI c := by
    rw [tc_cl0, ha4]
    show nI 0 + nI c = nI c
    rw [nI_add, Nat.zero_add]
  have hv : ∀ x : Int32, x = nI c → ∀ e, e < 5 → upd a24 l x e = tc_vec l c true e := by
    intro x hx e he
    by_cases e1 : e = l
    · rw [e1, pk_us, tc_vecl hl, hx]
    · rw [pk_un e1]
      by_cases e2 : e = 4
      · rw [e2, h4, tc_vec4]
      · rw [ho e e2 e1 he, tc_vecO e2 e1]
  refine ⟨2, pk_le 1 0 (fun z => absurd z (by omega)) (fun _ => ⟨pk_in 0 10 (by omega), i15, nm_r hf (br_t (by decide) ⟨pk_in 0 10 (by omega), ?_⟩)⟩) hr⟩
  rw [hz]
  refine tc_uc48_2 (l := l) (by omega) h3 (fun z => ?_) (fun z => ?_)
  · have hx : a24 l = nI c := by
      rcases hL with e | e
      · rw [e] at z
        exact absurd z (nI_ge (b := 1000000) (by omega) (by decide))
      · exact e
    exact pk_le 1 1 (fun _ => nm_e (H _ (hv _ hx))) (fun z => absurd z (by omega)) hr (by decide)
  · exact pk_le 1 1 (fun _ => nm_e (H _ (hv _ rfl))) (fun z => absurd z (by omega)) hr (by decide)
theorem tc_ucF_2 {post : St2 → Prop} {k l c o g nE : Nat} (hc : tc_cfg k l c o g nE ru en a3 a4 a12 a13 a15) (h : ∀ e, e < nE → a24 e = 1000000)
    (H : ∀ a : Nat → Int32, (∀ e, e < nE → a e = 1000000) → post (dr, ph, ru, no, th, la, en, sc, wh, tm, tl, co, wo, fs, wf, ws, a1, a2, a3, a4, a5, a6, a7, a8, a9, a10, a11, a12, a13, a14, a15, a16, a17, a18, a19, a20, a21, a22, a23, a, a25, a26, a27, a28, a29, a30, a31)) : wpX_useChains_2 post (dr, ph, ru, no, th, la, en, sc, wh, tm, tl, co, wo, fs, wf, ws, a1, a2, a3, a4, a5, a6, a7, a8, a9, a10, a11, a12, a13, a14, a15, a16, a17, a18, a19, a20, a21, a22, a23, a24, a25, a26, a27, a28, a29, a30, a31) := by
  unfold wpX_useChains_2
  exact pk_loop (fun n i s => wX_useChains_2_2 post dr ph ru no th la en sc wh tm tl co wo fs wf ws n (nI i) a1 a2 a3 a4 a5 a6 a7 a8 a9 a10 a11 a12 a13 a14 a15 a16 a17 a18 a19 a20 a21 a22 a23 s a25 a26 a27 a28 a29 a30 a31) (fun _ s => ∀ e, e < nE → s e = 1000000) 5 0 a24 (by omega) h
    (fun n s hs => pk_le 5 5 (fun _ => H s hs) (fun z => absurd z (by omega)))
    (fun n i s hi hs hw => pk_le 5 i (fun z => absurd z (by omega)) (fun _ => tc_uc9F_2 hc hs (fun a ha => ek_v (P := fun x => wX_useChains_2_2 post dr ph ru no th la en sc wh tm tl co wo fs wf ws n x a1 a2 a3 a4 a5 a6 a7 a8 a9 a10 a11 a12 a13 a14 a15 a16 a17 a18 a19 a20 a21 a22 a23 a a25 a26 a27 a28 a29 a30 a31) (nI_1 i) (hw a ha))))
theorem tc_ucT_2 {post : St2 → Prop} {l c o g nE : Nat} (hc : tc_cfg 3 l c o g nE ru en a3 a4 a12 a13 a15) (h : ∀ e, e < 5 → a24 e = if e = 4 then 0 else 1000000)
    (H : ∀ a : Nat → Int32, (∀ e, e < 5 → a e = tc_vec l c true e) → post (dr, ph, ru, no, th, la, en, sc, wh, tm, tl, co, wo, fs, wf, ws, a1, a2, a3, a4, a5, a6, a7, a8, a9, a10, a11, a12, a13, a14, a15, a16, a17, a18, a19, a20, a21, a22, a23, a, a25, a26, a27, a28, a29, a30, a31)) : wpX_useChains_2 post (dr, ph, ru, no, th, la, en, sc, wh, tm, tl, co, wo, fs, wf, ws, a1, a2, a3, a4, a5, a6, a7, a8, a9, a10, a11, a12, a13, a14, a15, a16, a17, a18, a19, a20, a21, a22, a23, a24, a25, a26, a27, a28, a29, a30, a31) := by
  have hl : l < 4 := (tc_cfg_3 hc).2.2.1
  unfold wpX_useChains_2
  exact pk_loop (fun n i s => wX_useChains_2_2 post dr ph ru no th la en sc wh tm tl co wo fs wf ws n (nI i) a1 a2 a3 a4 a5 a6 a7 a8 a9 a10 a11 a12 a13 a14 a15 a16 a17 a18 a19 a20 a21 a22 a23 s a25 a26 a27 a28 a29 a30 a31) (fun i s => (s 4 = 0 ∧ (s l = 1000000 ∨ s l = nI c) ∧ ∀ e, e ≠ 4 → e ≠ l → e < 5 → s e = 1000000) ∧ (0 < i → ∀ e, e < 5 → s e = tc_vec l c true e)) 5 0 a24 (by omega)
    ⟨⟨h 4 (by omega), Or.inl (by rw [h l (by omega), if_neg (by omega)]), fun e e4 _ he => by rw [h e he, if_neg e4]⟩, fun z => absurd z (by omega)⟩
    (fun n s hs => pk_le 5 5 (fun _ => H s (hs.2 (by omega))) (fun z => absurd z (by omega)))
    (fun n i s hi hs hw => pk_le 5 i (fun z => absurd z (by omega)) (fun _ => tc_uc9T_2 hc hs.1.1 hs.1.2.1 hs.1.2.2 (fun a ha => ek_v (P := fun x => wX_useChains_2_2 post dr ph ru no th la en sc wh tm tl co wo fs wf ws n x a1 a2 a3 a4 a5 a6 a7 a8 a9 a10 a11 a12 a13 a14 a15 a16 a17 a18 a19 a20 a21 a22 a23 a a25 a26 a27 a28 a29 a30 a31) (nI_1 i) (hw a ⟨⟨by rw [ha 4 (by omega), tc_vec4], Or.inr (by rw [ha l (by omega), tc_vecl hl]), fun e e4 el he => by rw [ha e he, tc_vecO e4 el]⟩, fun _ => ha⟩))))
theorem tc_uc_2 {post : St2 → Prop} {k l c o g nE : Nat} {b : Bool} (hc : tc_cfg k l c o g nE ru en a3 a4 a12 a13 a15) (hb : b = true → k = 3) (h : ∀ e, e < nE → a24 e = if b = true ∧ e = 4 then 0 else 1000000)
    (H : ∀ a : Nat → Int32, (∀ e, e < nE → a e = tc_vec l c b e) → post (dr, ph, ru, no, th, la, en, sc, wh, tm, tl, co, wo, fs, wf, ws, a1, a2, a3, a4, a5, a6, a7, a8, a9, a10, a11, a12, a13, a14, a15, a16, a17, a18, a19, a20, a21, a22, a23, a, a25, a26, a27, a28, a29, a30, a31)) : wpX_useChains_2 post (dr, ph, ru, no, th, la, en, sc, wh, tm, tl, co, wo, fs, wf, ws, a1, a2, a3, a4, a5, a6, a7, a8, a9, a10, a11, a12, a13, a14, a15, a16, a17, a18, a19, a20, a21, a22, a23, a24, a25, a26, a27, a28, a29, a30, a31) := by
  cases b with
  | false => exact tc_ucF_2 hc (fun e he => by rw [h e he, if_neg (by simp)]) (fun a ha => H a (fun e he => by rw [ha e he, tc_vecF]))
  | true =>
    have hk := hb rfl
    subst hk
    have h5 : nE = 5 := (tc_cfg_3 hc).1
    subst h5
    exact tc_ucT_2 hc (fun e he => by rw [h e he]; simp) H
theorem tc_hc {post : Int32 → Prop} {k l c o g nE p : Nat} (hc : tc_cfg k l c o g nE ru en a3 a4 a12 a13 a15) (h5 : nE = 5) (hp : p < 6)
    (hs : k = 2 → p = o → ¬ fs = 0 ∧ ∃ s, wf = nI s ∧ s ≤ 20 ∧ a17 (74 * s + g) = 1000000)
    (H : ∀ r, r = (if tc_hit k o p = true then 0 else 1000000) → post r) : wpX_helperCost post (dr, ph, ru, no, th, la, en, sc, wh, tm, tl, co, wo, fs, wf, ws, a1, a2, a3, a4, a5, a6, a7, a8, a9, a10, a11, a12, a13, a14, a15, a16, a17, a18, a19, a20, a21, a22, a23, a24, a25, a26, a27, a28, a29, a30, a31) 4 (nI p) := by
  unfold wpX_helperCost
  refine ⟨pk_in 4 74 (by omega), br_c (fun e => ?_) (fun e => H _ ?_)⟩
  · rw [tc_c4] at e
    rcases hc with ⟨_, h1, _⟩ | ⟨_, _, _, _, _, _, ⟨_, h1, _⟩ | ⟨hk, _, hg, ho2, ho4, _, h12, h13⟩ | ⟨hk, _, ho2, _, h12⟩⟩
    · omega
    · omega
    · rw [h12, nI_eq (by omega) (by omega)] at e
      obtain ⟨hf, s, hw, hs20, h17⟩ := hs hk e.symm
      have hd : nI p / 2 = nI 1 := by
        have t := pk_div (a := p) (d := 2) (by omega) (by omega) (by omega)
        rw [show p / 2 = 1 by omega] at t
        exact t
      have hx : 74 * wf + a13 (4 : Int32).toNatClampNeg = nI (74 * s + g) := by rw [tc_c4, h13, hw, tc_ix]
      have hr : (1000000 : Int32) = if tc_hit k o p = true then 0 else 1000000 := by
        rw [if_neg]
        intro z
        have := (tc_hitT z).1
        omega
      refine ⟨by decide, br_f (by rw [hd]; decide) ⟨pk_in 4 74 (by omega), br_f hf ⟨by rw [hx]; exact vp_in_nI (by omega) (by omega), ?_⟩⟩⟩
      rw [hx, nI_clamp (by omega), h17]
      exact br_t (by rw [hd]; decide) (br_t (by decide) (H _ hr))
    · rw [h12, nI_eq (by omega) (by omega)] at e
      have hd : nI p / 2 = nI 0 := by
        have t := pk_div (a := p) (d := 2) (by omega) (by omega) (by omega)
        rw [show p / 2 = 0 by omega] at t
        exact t
      refine ⟨by decide, br_t (by rw [hd]; decide) (br_t (by rw [hd]; decide) (br_f (by decide) (br_t (by decide) (H _ ?_))))⟩
      rw [if_pos (tc_hitI ⟨hk, e⟩)]
      decide
  · rw [if_neg]
    intro z
    obtain ⟨hk, hop⟩ := tc_hitT z
    subst hk
    apply e
    rw [tc_c4, (tc_cfg_3 hc).2.2.2.2.2.2.2.2, hop]
theorem tc_to23 {post : St2 → Prop} {k l c o g nE p : Nat} (hc : tc_cfg k l c o g nE ru en a3 a4 a12 a13 a15) (hp : p < 6)
    (hs : k = 2 → p = o → ¬ fs = 0 ∧ ∃ s, wf = nI s ∧ s ≤ 20 ∧ a17 (74 * s + g) = 1000000) (h : ∀ e, e < 4 → a24 e = 1000000)
    (H : ∀ a : Nat → Int32, (∀ e, e < nE → a e = tc_vec l c (tc_hit k o p) e) → post (dr, ph, ru, no, th, la, en, sc, wh, tm, tl, co, wo, fs, wf, ws, a1, a2, a3, a4, a5, a6, a7, a8, a9, a10, a11, a12, a13, a14, a15, a16, a17, a18, a19, a20, a21, a22, a23, a, a25, a26, a27, a28, a29, a30, a31)) : ∃ n, wX_tryOperator_23 post (nI p) dr ph ru no th la en sc wh tm tl co wo fs wf ws n 4 a1 a2 a3 a4 a5 a6 a7 a8 a9 a10 a11 a12 a13 a14 a15 a16 a17 a18 a19 a20 a21 a22 a23 a24 a25 a26 a27 a28 a29 a30 a31 := by
  obtain ⟨hen, hE4, hE5⟩ := tc_cfg_en hc
  have hb : tc_hit k o p = true → k = 3 := fun z => (tc_hitT z).1
  by_cases h5 : nE = 5
  · refine ⟨2, br_f (by rw [hen, h5]; decide) (tc_hc hc h5 hp hs (fun r hr => ⟨pk_in 4 74 (by omega), nm_e (nm_e (br_t (by rw [hen, h5]; decide) (tc_uc hc hb (fun e he => ?_) H)))⟩))⟩
    rw [tc_c4]
    by_cases e4 : e = 4
    · rw [e4, pk_us, hr]; simp
    · rw [pk_un e4, h e (by omega), if_neg (fun z => e4 z.2)]
  · refine ⟨1, br_t (by rw [hen, show nE = 4 by omega]; decide) (tc_uc hc hb (fun e he => ?_) H)⟩
    rw [h e (by omega), if_neg (by omega)]
theorem tc_try {post : St2 → Prop} {k l c o g nE p : Nat} (hc : tc_cfg k l c o g nE ru en a3 a4 a12 a13 a15) (hp : p < 6)
    (hs : k = 2 → p = o → ¬ fs = 0 ∧ ∃ s, wf = nI s ∧ s ≤ 20 ∧ a17 (74 * s + g) = 1000000)
    (H : ∀ a : Nat → Int32, (∀ e, e < nE → a e = tc_vec l c (tc_hit k o p) e) → post (dr, ph, ru, no, th, la, en, sc, wh, tm, tl, co, wo, fs, wf, ws, a1, a2, a3, a4, a5, a6, a7, a8, a9, a10, a11, a12, a13, a14, a15, a16, a17, a18, a19, a20, a21, a22, a23, a, a25, a26, a27, a28, a29, a30, a31)) : wpX_tryOperator post (dr, ph, ru, no, th, la, en, sc, wh, tm, tl, co, wo, fs, wf, ws, a1, a2, a3, a4, a5, a6, a7, a8, a9, a10, a11, a12, a13, a14, a15, a16, a17, a18, a19, a20, a21, a22, a23, a24, a25, a26, a27, a28, a29, a30, a31) (nI p) := by
  unfold wpX_tryOperator
  exact pk_loop (fun n i s => wX_tryOperator_2 post (nI p) dr ph ru no th la en sc wh tm tl co wo fs wf ws n (nI i) a1 a2 a3 a4 a5 a6 a7 a8 a9 a10 a11 a12 a13 a14 a15 a16 a17 a18 a19 a20 a21 a22 a23 s a25 a26 a27 a28 a29 a30 a31) (fun i s => ∀ e, e < i → s e = 1000000) 4 0 a24 (by omega) (fun e he => absurd he (by omega))
    (fun n s h => pk_le 4 4 (fun _ => tc_to23 hc hp hs h H) (fun z => absurd z (by omega)))
    (fun n i s hi h hw => pk_le 4 i (fun z => absurd z (by omega)) (fun _ => ⟨pk_in i 74 (by omega), nm_e (nm_r (nI_1 i) (hw _ (tc_fill (f := fun _ => 1000000) (nI_clamp (by omega)) h rfl)))⟩))
theorem tc_to23_2 {post : St2 → Prop} {k l c o g nE p : Nat} (hc : tc_cfg k l c o g nE ru en a3 a4 a12 a13 a15) (hp : p < 6)
    (hs : k = 2 → p = o → ¬ fs = 0 ∧ ∃ s, wf = nI s ∧ s ≤ 20 ∧ a17 (74 * s + g) = 1000000) (h : ∀ e, e < 4 → a24 e = 1000000)
    (H : ∀ a : Nat → Int32, (∀ e, e < nE → a e = tc_vec l c (tc_hit k o p) e) → post (dr, ph, ru, no, th, la, en, sc, wh, tm, tl, co, wo, fs, wf, ws, a1, a2, a3, a4, a5, a6, a7, a8, a9, a10, a11, a12, a13, a14, a15, a16, a17, a18, a19, a20, a21, a22, a23, a, a25, a26, a27, a28, a29, a30, a31)) : ∃ n, wX_tryOperator_2_23 post (nI p) dr ph ru no th la en sc wh tm tl co wo fs wf ws n 4 a1 a2 a3 a4 a5 a6 a7 a8 a9 a10 a11 a12 a13 a14 a15 a16 a17 a18 a19 a20 a21 a22 a23 a24 a25 a26 a27 a28 a29 a30 a31 := by
  obtain ⟨hen, hE4, hE5⟩ := tc_cfg_en hc
  have hb : tc_hit k o p = true → k = 3 := fun z => (tc_hitT z).1
  by_cases h5 : nE = 5
  · refine ⟨2, br_f (by rw [hen, h5]; decide) (tc_hc hc h5 hp hs (fun r hr => ⟨pk_in 4 74 (by omega), nm_e (nm_e (br_t (by rw [hen, h5]; decide) (tc_uc_2 hc hb (fun e he => ?_) H)))⟩))⟩
    rw [tc_c4]
    by_cases e4 : e = 4
    · rw [e4, pk_us, hr]; simp
    · rw [pk_un e4, h e (by omega), if_neg (fun z => e4 z.2)]
  · refine ⟨1, br_t (by rw [hen, show nE = 4 by omega]; decide) (tc_uc_2 hc hb (fun e he => ?_) H)⟩
    rw [h e (by omega), if_neg (by omega)]
theorem tc_try_2 {post : St2 → Prop} {k l c o g nE p : Nat} (hc : tc_cfg k l c o g nE ru en a3 a4 a12 a13 a15) (hp : p < 6)
    (hs : k = 2 → p = o → ¬ fs = 0 ∧ ∃ s, wf = nI s ∧ s ≤ 20 ∧ a17 (74 * s + g) = 1000000)
    (H : ∀ a : Nat → Int32, (∀ e, e < nE → a e = tc_vec l c (tc_hit k o p) e) → post (dr, ph, ru, no, th, la, en, sc, wh, tm, tl, co, wo, fs, wf, ws, a1, a2, a3, a4, a5, a6, a7, a8, a9, a10, a11, a12, a13, a14, a15, a16, a17, a18, a19, a20, a21, a22, a23, a, a25, a26, a27, a28, a29, a30, a31)) : wpX_tryOperator_2 post (dr, ph, ru, no, th, la, en, sc, wh, tm, tl, co, wo, fs, wf, ws, a1, a2, a3, a4, a5, a6, a7, a8, a9, a10, a11, a12, a13, a14, a15, a16, a17, a18, a19, a20, a21, a22, a23, a24, a25, a26, a27, a28, a29, a30, a31) (nI p) := by
  unfold wpX_tryOperator_2
  exact pk_loop (fun n i s => wX_tryOperator_2_2 post (nI p) dr ph ru no th la en sc wh tm tl co wo fs wf ws n (nI i) a1 a2 a3 a4 a5 a6 a7 a8 a9 a10 a11 a12 a13 a14 a15 a16 a17 a18 a19 a20 a21 a22 a23 s a25 a26 a27 a28 a29 a30 a31) (fun i s => ∀ e, e < i → s e = 1000000) 4 0 a24 (by omega) (fun e he => absurd he (by omega))
    (fun n s h => pk_le 4 4 (fun _ => tc_to23_2 hc hp hs h H) (fun z => absurd z (by omega)))
    (fun n i s hi h hw => pk_le 4 i (fun z => absurd z (by omega)) (fun _ => ⟨pk_in i 74 (by omega), nm_e (nm_r (nI_1 i) (hw _ (tc_fill (f := fun _ => 1000000) (nI_clamp (by omega)) h rfl)))⟩))
end
end
section
section
variable {dr ph ru no th la en sc wh tm tl co wo fs wf ws : Int32} {a1 a2 a3 a4 a5 a6 a7 a8 a9 a10 a11 a12 a13 a14 a15 a16 a17 a18 a19 a20 a21 a22 a23 a24 a25 a26 a27 a28 a29 a30 a31 : Nat → Int32}
theorem tc_sub0 (x : Int32) : x - 0 = x := Int32.sub_zero x
theorem tc_get {L : List Bool} {b : Bool} (hL : L.length ≤ 5) : (L ++ [b])[L.length]? = some b := by
  rw [List.getElem?_append_right (Nat.le_refl _), Nat.sub_self]
  rfl
theorem tc_l75_3 {post : St2 → Prop} {v : Nat → Int32} {nE : Nat} (hen : en = nI nE) (hE : nE ≤ 5) (hv : ∀ e, e < nE → ¬ v e < 1000000 → v e = 1000000) (h : ∀ e, e < nE → a24 e = v e)
    (H : ∀ a : Nat → Int32, (∀ e, e < nE → a e = v e) → post (dr, ph, ru, no, th, la, en, sc, wh, tm, 0, co, wo, fs, wf, ws, a1, a2, a3, a4, a5, a6, a7, a8, a9, a10, a11, a12, a13, a14, a15, a16, a17, a18, a19, a20, a21, a22, a23, a, a25, a26, a27, a28, a29, a30, a31)) : ∃ n, wX_lower_3_75 post dr ph ru no th la en sc wh tm 0 co wo fs wf ws n 0 a1 a2 a3 a4 a5 a6 a7 a8 a9 a10 a11 a12 a13 a14 a15 a16 a17 a18 a19 a20 a21 a22 a23 a24 a25 a26 a27 a28 a29 a30 a31 :=
  pk_loop (fun n i s => wX_lower_3_75 post dr ph ru no th la en sc wh tm 0 co wo fs wf ws n (nI i) a1 a2 a3 a4 a5 a6 a7 a8 a9 a10 a11 a12 a13 a14 a15 a16 a17 a18 a19 a20 a21 a22 a23 s a25 a26 a27 a28 a29 a30 a31) (fun _ s => ∀ e, e < nE → s e = v e) nE 0 a24 (by omega) h
    (fun n s hs => pk_le nE nE (fun _ => H s hs) (fun z => absurd z (by omega)) hen)
    (fun n i s hi hs hw => pk_le nE i (fun z => absurd z (by omega)) (fun _ => ⟨pk_in i 74 (by omega), br_c
      (fun q => ⟨pk_in i 74 (by omega), pk_in i 74 (by omega), nm_e (nm_r (nI_1 i) (hw _ (tc_same hs (by rw [nI_clamp (by omega), tc_sub0]; exact hs i hi))))⟩)
      (fun q => ⟨pk_in i 74 (by omega), nm_e (nm_r (nI_1 i) (hw _ (tc_same hs (by rw [nI_clamp (by omega)] at q ⊢; rw [hs i hi] at q; exact (hv i hi q).symm))))⟩)⟩) hen)
theorem tc_lower_3 {post : St2 → Prop} {l c nE : Nat} {b : Bool} (hen : en = nI nE) (hE4 : 4 ≤ nE) (hE : nE ≤ 5) (hb : b = true → nE = 5 ∧ c ≤ 9) (h : ∀ e, e < nE → a24 e = tc_vec l c b e)
    (H : ∀ a : Nat → Int32, (∀ e, e < nE → a e = tc_vec l c b e) → post (dr, ph, ru, no, th, la, en, sc, wh, tm, 0, co, wo, fs, wf, ws, a1, a2, a3, a4, a5, a6, a7, a8, a9, a10, a11, a12, a13, a14, a15, a16, a17, a18, a19, a20, a21, a22, a23, a, a25, a26, a27, a28, a29, a30, a31)) : wpX_lower_3 post (dr, ph, ru, no, th, la, en, sc, wh, tm, tl, co, wo, fs, wf, ws, a1, a2, a3, a4, a5, a6, a7, a8, a9, a10, a11, a12, a13, a14, a15, a16, a17, a18, a19, a20, a21, a22, a23, a24, a25, a26, a27, a28, a29, a30, a31) := by
  have hN : ∀ e, ∃ m, m ≤ 1000000 ∧ tc_vec l c b e = nI m := tc_vecNF b (fun z => (hb z).2)
  have hv : ∀ e, e < nE → ¬ tc_vec l c b e < 1000000 → tc_vec l c b e = 1000000 := by
    intro e _ q
    obtain ⟨m, hm, em⟩ := hN e
    rw [em] at q ⊢
    by_cases e2 : m < 1000000
    · exact absurd (nI_lt (b := 1000000) e2 (by omega)) q
    · rw [show m = 1000000 by omega]
      rfl
  unfold wpX_lower_3
  refine pk_loop (fun n i s => wX_lower_3_8 post dr ph ru no th la en sc wh tm co wo fs wf ws a1 a2 a3 a4 a5 a6 a7 a8 a9 a10 a11 a12 a13 a14 a15 a16 a17 a18 a19 a20 a21 a22 a23 a24 a25 a26 a27 a28 a29 a30 a31 n (nI i) s) (fun i s => (∃ m, m ≤ 1000000 ∧ s = nI m) ∧ (b = false → s = 1000000) ∧ (b = true → i = 5 → s = 0)) nE 0 1000000 (by omega) ⟨⟨1000000, by omega, rfl⟩, fun _ => rfl, fun _ z => absurd z (by omega)⟩ ?_ ?_
  · intro n s hs
    refine pk_le nE nE (fun _ => ?_) (fun z => absurd z (by omega)) hen
    cases b with
    | false => exact br_t (hs.2.1 rfl) (tc_l75_3 hen hE hv h H)
    | true =>
      have e0 : s = 0 := hs.2.2 rfl (hb rfl).1
      rw [e0]
      exact br_f (by decide) (tc_l75_3 hen hE hv h H)
  · intro n i s hi hs hw
    obtain ⟨⟨m, hm, em⟩, hs2, hs3⟩ := hs
    obtain ⟨q, hq, eq⟩ := hN i
    have ha : a24 (nI i).toNatClampNeg = nI q := by rw [nI_clamp (by omega), h i hi, eq]
    refine pk_le nE i (fun z => absurd z (by omega)) (fun _ => ⟨pk_in i 74 (by omega), pk_le m q (fun hz => nm_r (nI_1 i) (hw s ⟨⟨m, hm, em⟩, hs2, fun b1 i5 => ?_⟩)) (fun hz => ⟨pk_in i 74 (by omega), nm_r ha (nm_r (nI_1 i) (hw (nI q) ⟨⟨q, hq, rfl⟩, fun b0 => ?_, fun b1 i5 => ?_⟩))⟩) em ha⟩) hen
    · rw [b1, show i = 4 by omega, tc_vec4] at eq
      have q0 : q = 0 := by
        have := (nI_eq (a := 0) (b := q) (by omega) (by omega)).mp eq
        omega
      rw [em, show m = 0 by omega]
      rfl
    · rw [← eq, b0, tc_vecF]
    · rw [← eq, b1, show i = 4 by omega, tc_vec4]
theorem tc_l75_4 {post : St2 → Prop} {v : Nat → Int32} {nE : Nat} (hen : en = nI nE) (hE : nE ≤ 5) (hv : ∀ e, e < nE → ¬ v e < 1000000 → v e = 1000000) (h : ∀ e, e < nE → a24 e = v e)
    (H : ∀ a : Nat → Int32, (∀ e, e < nE → a e = v e) → post (dr, ph, ru, no, th, la, en, sc, wh, tm, 0, co, wo, fs, wf, ws, a1, a2, a3, a4, a5, a6, a7, a8, a9, a10, a11, a12, a13, a14, a15, a16, a17, a18, a19, a20, a21, a22, a23, a, a25, a26, a27, a28, a29, a30, a31)) : ∃ n, wX_lower_4_75 post dr ph ru no th la en sc wh tm 0 co wo fs wf ws n 0 a1 a2 a3 a4 a5 a6 a7 a8 a9 a10 a11 a12 a13 a14 a15 a16 a17 a18 a19 a20 a21 a22 a23 a24 a25 a26 a27 a28 a29 a30 a31 :=
  pk_loop (fun n i s => wX_lower_4_75 post dr ph ru no th la en sc wh tm 0 co wo fs wf ws n (nI i) a1 a2 a3 a4 a5 a6 a7 a8 a9 a10 a11 a12 a13 a14 a15 a16 a17 a18 a19 a20 a21 a22 a23 s a25 a26 a27 a28 a29 a30 a31) (fun _ s => ∀ e, e < nE → s e = v e) nE 0 a24 (by omega) h
    (fun n s hs => pk_le nE nE (fun _ => H s hs) (fun z => absurd z (by omega)) hen)
    (fun n i s hi hs hw => pk_le nE i (fun z => absurd z (by omega)) (fun _ => ⟨pk_in i 74 (by omega), br_c
      (fun q => ⟨pk_in i 74 (by omega), pk_in i 74 (by omega), nm_e (nm_r (nI_1 i) (hw _ (tc_same hs (by rw [nI_clamp (by omega), tc_sub0]; exact hs i hi))))⟩)
      (fun q => ⟨pk_in i 74 (by omega), nm_e (nm_r (nI_1 i) (hw _ (tc_same hs (by rw [nI_clamp (by omega)] at q ⊢; rw [hs i hi] at q; exact (hv i hi q).symm))))⟩)⟩) hen)
theorem tc_lower_4 {post : St2 → Prop} {l c nE : Nat} {b : Bool} (hen : en = nI nE) (hE4 : 4 ≤ nE) (hE : nE ≤ 5) (hb : b = true → nE = 5 ∧ c ≤ 9) (h : ∀ e, e < nE → a24 e = tc_vec l c b e)
    (H : ∀ a : Nat → Int32, (∀ e, e < nE → a e = tc_vec l c b e) → post (dr, ph, ru, no, th, la, en, sc, wh, tm, 0, co, wo, fs, wf, ws, a1, a2, a3, a4, a5, a6, a7, a8, a9, a10, a11, a12, a13, a14, a15, a16, a17, a18, a19, a20, a21, a22, a23, a, a25, a26, a27, a28, a29, a30, a31)) : wpX_lower_4 post (dr, ph, ru, no, th, la, en, sc, wh, tm, tl, co, wo, fs, wf, ws, a1, a2, a3, a4, a5, a6, a7, a8, a9, a10, a11, a12, a13, a14, a15, a16, a17, a18, a19, a20, a21, a22, a23, a24, a25, a26, a27, a28, a29, a30, a31) := by
  have hN : ∀ e, ∃ m, m ≤ 1000000 ∧ tc_vec l c b e = nI m := tc_vecNF b (fun z => (hb z).2)
  have hv : ∀ e, e < nE → ¬ tc_vec l c b e < 1000000 → tc_vec l c b e = 1000000 := by
    intro e _ q
    obtain ⟨m, hm, em⟩ := hN e
    rw [em] at q ⊢
    by_cases e2 : m < 1000000
    · exact absurd (nI_lt (b := 1000000) e2 (by omega)) q
    · rw [show m = 1000000 by omega]
      rfl
  unfold wpX_lower_4
  refine pk_loop (fun n i s => wX_lower_4_8 post dr ph ru no th la en sc wh tm co wo fs wf ws a1 a2 a3 a4 a5 a6 a7 a8 a9 a10 a11 a12 a13 a14 a15 a16 a17 a18 a19 a20 a21 a22 a23 a24 a25 a26 a27 a28 a29 a30 a31 n (nI i) s) (fun i s => (∃ m, m ≤ 1000000 ∧ s = nI m) ∧ (b = false → s = 1000000) ∧ (b = true → i = 5 → s = 0)) nE 0 1000000 (by omega) ⟨⟨1000000, by omega, rfl⟩, fun _ => rfl, fun _ z => absurd z (by omega)⟩ ?_ ?_
  · intro n s hs
    refine pk_le nE nE (fun _ => ?_) (fun z => absurd z (by omega)) hen
    cases b with
    | false => exact br_t (hs.2.1 rfl) (tc_l75_4 hen hE hv h H)
    | true =>
      have e0 : s = 0 := hs.2.2 rfl (hb rfl).1
      rw [e0]
      exact br_f (by decide) (tc_l75_4 hen hE hv h H)
  · intro n i s hi hs hw
    obtain ⟨⟨m, hm, em⟩, hs2, hs3⟩ := hs
    obtain ⟨q, hq, eq⟩ := hN i
    have ha : a24 (nI i).toNatClampNeg = nI q := by rw [nI_clamp (by omega), h i hi, eq]
    refine pk_le nE i (fun z => absurd z (by omega)) (fun _ => ⟨pk_in i 74 (by omega), pk_le m q (fun hz => nm_r (nI_1 i) (hw s ⟨⟨m, hm, em⟩, hs2, fun b1 i5 => ?_⟩)) (fun hz => ⟨pk_in i 74 (by omega), nm_r ha (nm_r (nI_1 i) (hw (nI q) ⟨⟨q, hq, rfl⟩, fun b0 => ?_, fun b1 i5 => ?_⟩))⟩) em ha⟩) hen
    · rw [b1, show i = 4 by omega, tc_vec4] at eq
      have q0 : q = 0 := by
        have := (nI_eq (a := 0) (b := q) (by omega) (by omega)).mp eq
        omega
      rw [em, show m = 0 by omega]
      rfl
    · rw [← eq, b0, tc_vecF]
    · rw [← eq, b1, show i = 4 by omega, tc_vec4]
theorem tc_l75_5 {post : St2 → Prop} {v : Nat → Int32} {nE : Nat} (hen : en = nI nE) (hE : nE ≤ 5) (hv : ∀ e, e < nE → ¬ v e < 1000000 → v e = 1000000) (h : ∀ e, e < nE → a24 e = v e)
    (H : ∀ a : Nat → Int32, (∀ e, e < nE → a e = v e) → post (dr, ph, ru, no, th, la, en, sc, wh, tm, 0, co, wo, fs, wf, ws, a1, a2, a3, a4, a5, a6, a7, a8, a9, a10, a11, a12, a13, a14, a15, a16, a17, a18, a19, a20, a21, a22, a23, a, a25, a26, a27, a28, a29, a30, a31)) : ∃ n, wX_lower_5_75 post dr ph ru no th la en sc wh tm 0 co wo fs wf ws n 0 a1 a2 a3 a4 a5 a6 a7 a8 a9 a10 a11 a12 a13 a14 a15 a16 a17 a18 a19 a20 a21 a22 a23 a24 a25 a26 a27 a28 a29 a30 a31 :=
  pk_loop (fun n i s => wX_lower_5_75 post dr ph ru no th la en sc wh tm 0 co wo fs wf ws n (nI i) a1 a2 a3 a4 a5 a6 a7 a8 a9 a10 a11 a12 a13 a14 a15 a16 a17 a18 a19 a20 a21 a22 a23 s a25 a26 a27 a28 a29 a30 a31) (fun _ s => ∀ e, e < nE → s e = v e) nE 0 a24 (by omega) h
    (fun n s hs => pk_le nE nE (fun _ => H s hs) (fun z => absurd z (by omega)) hen)
    (fun n i s hi hs hw => pk_le nE i (fun z => absurd z (by omega)) (fun _ => ⟨pk_in i 74 (by omega), br_c
      (fun q => ⟨pk_in i 74 (by omega), pk_in i 74 (by omega), nm_e (nm_r (nI_1 i) (hw _ (tc_same hs (by rw [nI_clamp (by omega), tc_sub0]; exact hs i hi))))⟩)
      (fun q => ⟨pk_in i 74 (by omega), nm_e (nm_r (nI_1 i) (hw _ (tc_same hs (by rw [nI_clamp (by omega)] at q ⊢; rw [hs i hi] at q; exact (hv i hi q).symm))))⟩)⟩) hen)
theorem tc_lower_5 {post : St2 → Prop} {l c nE : Nat} {b : Bool} (hen : en = nI nE) (hE4 : 4 ≤ nE) (hE : nE ≤ 5) (hb : b = true → nE = 5 ∧ c ≤ 9) (h : ∀ e, e < nE → a24 e = tc_vec l c b e)
    (H : ∀ a : Nat → Int32, (∀ e, e < nE → a e = tc_vec l c b e) → post (dr, ph, ru, no, th, la, en, sc, wh, tm, 0, co, wo, fs, wf, ws, a1, a2, a3, a4, a5, a6, a7, a8, a9, a10, a11, a12, a13, a14, a15, a16, a17, a18, a19, a20, a21, a22, a23, a, a25, a26, a27, a28, a29, a30, a31)) : wpX_lower_5 post (dr, ph, ru, no, th, la, en, sc, wh, tm, tl, co, wo, fs, wf, ws, a1, a2, a3, a4, a5, a6, a7, a8, a9, a10, a11, a12, a13, a14, a15, a16, a17, a18, a19, a20, a21, a22, a23, a24, a25, a26, a27, a28, a29, a30, a31) := by
  have hN : ∀ e, ∃ m, m ≤ 1000000 ∧ tc_vec l c b e = nI m := tc_vecNF b (fun z => (hb z).2)
  have hv : ∀ e, e < nE → ¬ tc_vec l c b e < 1000000 → tc_vec l c b e = 1000000 := by
    intro e _ q
    obtain ⟨m, hm, em⟩ := hN e
    rw [em] at q ⊢
    by_cases e2 : m < 1000000
    · exact absurd (nI_lt (b := 1000000) e2 (by omega)) q
    · rw [show m = 1000000 by omega]
      rfl
  unfold wpX_lower_5
  refine pk_loop (fun n i s => wX_lower_5_8 post dr ph ru no th la en sc wh tm co wo fs wf ws a1 a2 a3 a4 a5 a6 a7 a8 a9 a10 a11 a12 a13 a14 a15 a16 a17 a18 a19 a20 a21 a22 a23 a24 a25 a26 a27 a28 a29 a30 a31 n (nI i) s) (fun i s => (∃ m, m ≤ 1000000 ∧ s = nI m) ∧ (b = false → s = 1000000) ∧ (b = true → i = 5 → s = 0)) nE 0 1000000 (by omega) ⟨⟨1000000, by omega, rfl⟩, fun _ => rfl, fun _ z => absurd z (by omega)⟩ ?_ ?_
  · intro n s hs
    refine pk_le nE nE (fun _ => ?_) (fun z => absurd z (by omega)) hen
    cases b with
    | false => exact br_t (hs.2.1 rfl) (tc_l75_5 hen hE hv h H)
    | true =>
      have e0 : s = 0 := hs.2.2 rfl (hb rfl).1
      rw [e0]
      exact br_f (by decide) (tc_l75_5 hen hE hv h H)
  · intro n i s hi hs hw
    obtain ⟨⟨m, hm, em⟩, hs2, hs3⟩ := hs
    obtain ⟨q, hq, eq⟩ := hN i
    have ha : a24 (nI i).toNatClampNeg = nI q := by rw [nI_clamp (by omega), h i hi, eq]
    refine pk_le nE i (fun z => absurd z (by omega)) (fun _ => ⟨pk_in i 74 (by omega), pk_le m q (fun hz => nm_r (nI_1 i) (hw s ⟨⟨m, hm, em⟩, hs2, fun b1 i5 => ?_⟩)) (fun hz => ⟨pk_in i 74 (by omega), nm_r ha (nm_r (nI_1 i) (hw (nI q) ⟨⟨q, hq, rfl⟩, fun b0 => ?_, fun b1 i5 => ?_⟩))⟩) em ha⟩) hen
    · rw [b1, show i = 4 by omega, tc_vec4] at eq
      have q0 : q = 0 := by
        have := (nI_eq (a := 0) (b := q) (by omega) (by omega)).mp eq
        omega
      rw [em, show m = 0 by omega]
      rfl
    · rw [← eq, b0, tc_vecF]
    · rw [← eq, b1, show i = 4 by omega, tc_vec4]
theorem tc_l75_6 {post : St2 → Prop} {v : Nat → Int32} {nE : Nat} (hen : en = nI nE) (hE : nE ≤ 5) (hv : ∀ e, e < nE → ¬ v e < 1000000 → v e = 1000000) (h : ∀ e, e < nE → a24 e = v e)
    (H : ∀ a : Nat → Int32, (∀ e, e < nE → a e = v e) → post (dr, ph, ru, no, th, la, en, sc, wh, tm, 0, co, wo, fs, wf, ws, a1, a2, a3, a4, a5, a6, a7, a8, a9, a10, a11, a12, a13, a14, a15, a16, a17, a18, a19, a20, a21, a22, a23, a, a25, a26, a27, a28, a29, a30, a31)) : ∃ n, wX_lower_6_75 post dr ph ru no th la en sc wh tm 0 co wo fs wf ws n 0 a1 a2 a3 a4 a5 a6 a7 a8 a9 a10 a11 a12 a13 a14 a15 a16 a17 a18 a19 a20 a21 a22 a23 a24 a25 a26 a27 a28 a29 a30 a31 :=
  pk_loop (fun n i s => wX_lower_6_75 post dr ph ru no th la en sc wh tm 0 co wo fs wf ws n (nI i) a1 a2 a3 a4 a5 a6 a7 a8 a9 a10 a11 a12 a13 a14 a15 a16 a17 a18 a19 a20 a21 a22 a23 s a25 a26 a27 a28 a29 a30 a31) (fun _ s => ∀ e, e < nE → s e = v e) nE 0 a24 (by omega) h
    (fun n s hs => pk_le nE nE (fun _ => H s hs) (fun z => absurd z (by omega)) hen)
    (fun n i s hi hs hw => pk_le nE i (fun z => absurd z (by omega)) (fun _ => ⟨pk_in i 74 (by omega), br_c
      (fun q => ⟨pk_in i 74 (by omega), pk_in i 74 (by omega), nm_e (nm_r (nI_1 i) (hw _ (tc_same hs (by rw [nI_clamp (by omega), tc_sub0]; exact hs i hi))))⟩)
      (fun q => ⟨pk_in i 74 (by omega), nm_e (nm_r (nI_1 i) (hw _ (tc_same hs (by rw [nI_clamp (by omega)] at q ⊢; rw [hs i hi] at q; exact (hv i hi q).symm))))⟩)⟩) hen)
theorem tc_lower_6 {post : St2 → Prop} {l c nE : Nat} {b : Bool} (hen : en = nI nE) (hE4 : 4 ≤ nE) (hE : nE ≤ 5) (hb : b = true → nE = 5 ∧ c ≤ 9) (h : ∀ e, e < nE → a24 e = tc_vec l c b e)
    (H : ∀ a : Nat → Int32, (∀ e, e < nE → a e = tc_vec l c b e) → post (dr, ph, ru, no, th, la, en, sc, wh, tm, 0, co, wo, fs, wf, ws, a1, a2, a3, a4, a5, a6, a7, a8, a9, a10, a11, a12, a13, a14, a15, a16, a17, a18, a19, a20, a21, a22, a23, a, a25, a26, a27, a28, a29, a30, a31)) : wpX_lower_6 post (dr, ph, ru, no, th, la, en, sc, wh, tm, tl, co, wo, fs, wf, ws, a1, a2, a3, a4, a5, a6, a7, a8, a9, a10, a11, a12, a13, a14, a15, a16, a17, a18, a19, a20, a21, a22, a23, a24, a25, a26, a27, a28, a29, a30, a31) := by
  have hN : ∀ e, ∃ m, m ≤ 1000000 ∧ tc_vec l c b e = nI m := tc_vecNF b (fun z => (hb z).2)
  have hv : ∀ e, e < nE → ¬ tc_vec l c b e < 1000000 → tc_vec l c b e = 1000000 := by
    intro e _ q
    obtain ⟨m, hm, em⟩ := hN e
    rw [em] at q ⊢
    by_cases e2 : m < 1000000
    · exact absurd (nI_lt (b := 1000000) e2 (by omega)) q
    · rw [show m = 1000000 by omega]
      rfl
  unfold wpX_lower_6
  refine pk_loop (fun n i s => wX_lower_6_8 post dr ph ru no th la en sc wh tm co wo fs wf ws a1 a2 a3 a4 a5 a6 a7 a8 a9 a10 a11 a12 a13 a14 a15 a16 a17 a18 a19 a20 a21 a22 a23 a24 a25 a26 a27 a28 a29 a30 a31 n (nI i) s) (fun i s => (∃ m, m ≤ 1000000 ∧ s = nI m) ∧ (b = false → s = 1000000) ∧ (b = true → i = 5 → s = 0)) nE 0 1000000 (by omega) ⟨⟨1000000, by omega, rfl⟩, fun _ => rfl, fun _ z => absurd z (by omega)⟩ ?_ ?_
  · intro n s hs
    refine pk_le nE nE (fun _ => ?_) (fun z => absurd z (by omega)) hen
    cases b with
    | false => exact br_t (hs.2.1 rfl) (tc_l75_6 hen hE hv h H)
    | true =>
      have e0 : s = 0 := hs.2.2 rfl (hb rfl).1
      rw [e0]
      exact br_f (by decide) (tc_l75_6 hen hE hv h H)
  · intro n i s hi hs hw
    obtain ⟨⟨m, hm, em⟩, hs2, hs3⟩ := hs
    obtain ⟨q, hq, eq⟩ := hN i
    have ha : a24 (nI i).toNatClampNeg = nI q := by rw [nI_clamp (by omega), h i hi, eq]
    refine pk_le nE i (fun z => absurd z (by omega)) (fun _ => ⟨pk_in i 74 (by omega), pk_le m q (fun hz => nm_r (nI_1 i) (hw s ⟨⟨m, hm, em⟩, hs2, fun b1 i5 => ?_⟩)) (fun hz => ⟨pk_in i 74 (by omega), nm_r ha (nm_r (nI_1 i) (hw (nI q) ⟨⟨q, hq, rfl⟩, fun b0 => ?_, fun b1 i5 => ?_⟩))⟩) em ha⟩) hen
    · rw [b1, show i = 4 by omega, tc_vec4] at eq
      have q0 : q = 0 := by
        have := (nI_eq (a := 0) (b := q) (by omega) (by omega)).mp eq
        omega
      rw [em, show m = 0 by omega]
      rfl
    · rw [← eq, b0, tc_vecF]
    · rw [← eq, b1, show i = 4 by omega, tc_vec4]
theorem tc_sameAs {post : Int32 → Prop} {l c nE s : Nat} {b b' : Bool} (hen : en = nI nE) (hE4 : 4 ≤ nE) (hE : nE ≤ 5) (hb : b = true → nE = 5) (hb' : b' = true → nE = 5) (hs : s ≤ 20)
    (h : ∀ e, e < nE → a24 e = tc_vec l c b e) (h' : ∀ e, e < nE → a17 (74 * s + e) = tc_vec l c b' e) (H1 : b' = b → post 1) (H0 : b' ≠ b → post 0) : wpX_sameAs post (dr, ph, ru, no, th, la, en, sc, wh, tm, tl, co, wo, fs, wf, ws, a1, a2, a3, a4, a5, a6, a7, a8, a9, a10, a11, a12, a13, a14, a15, a16, a17, a18, a19, a20, a21, a22, a23, a24, a25, a26, a27, a28, a29, a30, a31) (nI s) := by
  have h5 : b' ≠ b → nE = 5 := by
    intro z
    cases b with
    | true => exact hb rfl
    | false =>
      cases b' with
      | true => exact hb' rfl
      | false => exact absurd rfl z
  have h4 : b' ≠ b → ¬ tc_vec l c b' 4 = tc_vec l c b 4 := by
    intro z
    cases b with
    | true =>
      cases b' with
      | true => exact absurd rfl z
      | false => rw [tc_vecF, tc_vec4]; decide
    | false =>
      cases b' with
      | true => rw [tc_vecF, tc_vec4]; decide
      | false => exact absurd rfl z
  unfold wpX_sameAs
  refine pk_loop (fun n i (x : Int32) => wX_sameAs_4 post (nI s) dr ph ru no th la en sc wh tm tl co wo fs wf ws a1 a2 a3 a4 a5 a6 a7 a8 a9 a10 a11 a12 a13 a14 a15 a16 a17 a18 a19 a20 a21 a22 a23 a24 a25 a26 a27 a28 a29 a30 a31 n x (nI i)) (fun i x => (x = 1 ∨ (x = 0 ∧ b' ≠ b)) ∧ (b' ≠ b → i = 5 → x = 0)) nE 0 1 (by omega) ⟨Or.inl rfl, fun _ z => absurd z (by omega)⟩ ?_ ?_
  · intro n x hx
    refine pk_le nE nE (fun _ => ?_) (fun z => absurd z (by omega)) hen
    rcases hx.1 with e | ⟨e, hne⟩
    · rw [e]
      refine ⟨by rfl, H1 ?_⟩
      by_cases hbb : b' = b
      · exact hbb
      · have t := hx.2 hbb (h5 hbb)
        rw [e] at t
        exact absurd t (by decide)
    · rw [e]
      exact ⟨by rfl, H0 hne⟩
  · intro n i x hi hx hw
    refine pk_le nE i (fun z => absurd z (by omega)) (fun _ => ?_) hen
    rcases hx.1 with e | ⟨e, hne⟩
    · rw [e]
      have e17 : a17 (74 * nI s + nI i).toNatClampNeg = tc_vec l c b' i := by rw [tc_ix, nI_clamp (by omega)]; exact h' i hi
      have e24 : a24 (nI i).toNatClampNeg = tc_vec l c b i := by rw [nI_clamp (by omega)]; exact h i hi
      refine br_f (by decide) ⟨pk_in (74 * s + i) 1628 (by omega) (tc_ix s i), pk_in i 74 (by omega), br_c (fun q => nm_r (nI_1 i) (hw 1 ⟨Or.inl rfl, fun hne i5 => ?_⟩)) (fun q => nm_r (nI_1 i) (hw 0 ⟨Or.inr ⟨rfl, ?_⟩, fun _ _ => rfl⟩))⟩
      · rw [e17, e24, show i = 4 by omega] at q
        exact absurd q (h4 hne)
      · intro hbb
        rw [e17, e24, hbb] at q
        exact q rfl
    · rw [e]
      exact br_t rfl ⟨by rfl, H0 hne⟩
theorem tc_tab_add {l c nE : Nat} {L : List Bool} {b : Bool} {a17 a : Nat → Int32} (hE : nE ≤ 5) (ht : tc_tab l c nE L a17) (h1 : ∀ e, e < nE → a (74 * L.length + e) = tc_vec l c b e) (h2 : ∀ q, q < 74 * L.length → a q = a17 q) : tc_tab l c nE (L ++ [b]) a := by
  intro s x hx e he
  by_cases hs : s < L.length
  · rw [List.getElem?_append_left hs] at hx
    rw [h2 (74 * s + e) (by omega)]
    exact ht s x hx e he
  · have hlt : s < (L ++ [b]).length := by
      rcases Nat.lt_or_ge s (L ++ [b]).length with z | z
      · exact z
      · rw [List.getElem?_eq_none z] at hx
        exact absurd hx (by simp)
    rw [List.length_append] at hlt
    have hl1 : [b].length = 1 := rfl
    have es : s = L.length := by omega
    rw [es, List.getElem?_append_right (Nat.le_refl _), Nat.sub_self] at hx
    have ex : b = x := by
      have : some b = some x := hx
      exact Option.some.inj this
    rw [es, h1 e he, ex]
theorem tc_st51_3 {post : Int32 → St2 → Prop} {nE len : Nat} (hen : en = nI nE) (hE : nE ≤ 5) (hlen : len ≤ 5)
    (H : ∀ a : Nat → Int32, (∀ e, e < nE → a (74 * len + e) = a24 e) → (∀ q, q < 74 * len → a q = a17 q) → ∀ r : Int32, r = nI len → post r (dr, ph, ru, no, th, la, en, (nI (len + 1)), wh, tm, tl, co, wo, fs, wf, ws, a1, a2, a3, a4, a5, a6, a7, a8, a9, a10, a11, a12, a13, a14, a15, a16, a, a18, a19, a20, a21, a22, a23, a24, a25, a26, a27, a28, a29, a30, a31)) :
    ∃ n, wX_stateOfTrial_3_51 post dr ph ru no th la en (nI len) wh tm tl co wo fs wf ws n 0 a1 a2 a3 a4 a5 a6 a7 a8 a9 a10 a11 a12 a13 a14 a15 a16 a17 a18 a19 a20 a21 a22 a23 a24 a25 a26 a27 a28 a29 a30 a31 :=
  pk_loop (fun n i s => wX_stateOfTrial_3_51 post dr ph ru no th la en (nI len) wh tm tl co wo fs wf ws n (nI i) a1 a2 a3 a4 a5 a6 a7 a8 a9 a10 a11 a12 a13 a14 a15 a16 s a18 a19 a20 a21 a22 a23 a24 a25 a26 a27 a28 a29 a30 a31) (fun i s => (∀ e, e < i → s (74 * len + e) = a24 e) ∧ ∀ q, q < 74 * len → s q = a17 q) nE 0 a17 (by omega) ⟨fun e he => absurd he (by omega), fun _ _ => rfl⟩
    (fun n s hs => pk_le nE nE (fun _ => nm_r (nI_1 len) (H s hs.1 hs.2 _ (nI_pred len))) (fun z => absurd z (by omega)) hen)
    (fun n i s hi hs hw => pk_le nE i (fun z => absurd z (by omega)) (fun _ => ⟨pk_in i 74 (by omega), pk_in (74 * len + i) 1628 (by omega) (tc_ix len i), nm_e (nm_r (nI_1 i) (hw _ ⟨fun e he => by
      rw [tc_ix, nI_clamp (by omega), nI_clamp (by omega)]
      by_cases e2 : e = i
      · rw [e2, pk_us]
      · rw [pk_un (by omega)]; exact hs.1 e (by omega), fun q hq => by
      rw [tc_ix, nI_clamp (by omega), pk_un (by omega)]; exact hs.2 q hq⟩))⟩) hen)
theorem tc_st_3 {post : Int32 → St2 → Prop} {l c nE : Nat} {L : List Bool} {b : Bool} (hen : en = nI nE) (hE4 : 4 ≤ nE) (hE : nE ≤ 5) (hb : b = true → nE = 5 ∧ c ≤ 9) (hL : L.length ≤ 5)
    (hLb : ∀ x, x ∈ L → x = true → nE = 5) (hsc : sc = nI L.length) (ht : tc_tab l c nE L a17) (h : ∀ e, e < nE → a24 e = tc_vec l c b e)
    (H : ∀ a a' : Nat → Int32, tc_tab l c nE (tc_add L b) a → ∀ (s : Nat) (r : Int32), r = nI s → (tc_add L b)[s]? = some b → post r (dr, ph, ru, no, th, la, en, (nI (tc_add L b).length), wh, tm, 0, co, wo, fs, wf, ws, a1, a2, a3, a4, a5, a6, a7, a8, a9, a10, a11, a12, a13, a14, a15, a16, a, a18, a19, a20, a21, a22, a23, a', a25, a26, a27, a28, a29, a30, a31)) : wpX_stateOfTrial_3 post (dr, ph, ru, no, th, la, en, sc, wh, tm, tl, co, wo, fs, wf, ws, a1, a2, a3, a4, a5, a6, a7, a8, a9, a10, a11, a12, a13, a14, a15, a16, a17, a18, a19, a20, a21, a22, a23, a24, a25, a26, a27, a28, a29, a30, a31) := by
  subst hsc
  unfold wpX_stateOfTrial_3
  refine tc_lower_3 hen hE4 hE hb h (fun a' ha' => ?_)
  refine pk_loop (σ := Unit) (fun n i _ => wX_stateOfTrial_3_6 post dr ph ru no th la en (nI L.length) wh tm 0 co wo fs wf ws a1 a2 a3 a4 a5 a6 a7 a8 a9 a10 a11 a12 a13 a14 a15 a16 a17 a18 a19 a20 a21 a22 a23 a' a25 a26 a27 a28 a29 a30 a31 n (nI i)) (fun i _ => ∀ j, j < i → ¬ L[j]? = some b) L.length 0 () (by omega) (fun j hj => absurd hj (by omega)) ?_ ?_
  · intro n _ hI
    have hnot : ¬ b ∈ L := by
      intro z
      obtain ⟨j, hj, ej⟩ := List.mem_iff_getElem.mp z
      exact hI j hj (by rw [List.getElem?_eq_getElem hj, ej])
    have hA : tc_add L b = L ++ [b] := tc_add_out hnot
    have hn : (tc_add L b).length = L.length + 1 := by rw [hA, List.length_append]; rfl
    refine pk_le L.length L.length (fun _ => br_f ?_ (tc_st51_3 hen hE hL (fun a h1 h2 r hr => ?_))) (fun z => absurd z (by omega))
    · intro z
      have := (nI_eq (a := L.length) (b := 20) (by omega) (by omega)).mp z
      omega
    · have t := H a a' (by rw [hA]; exact tc_tab_add hE ht (fun e he => by rw [h1 e he, ha' e he]) h2) L.length r hr (by rw [hA]; exact tc_get hL)
      rw [hn] at t
      exact t
  · intro n i _ hi hI hw
    obtain ⟨b', hb'⟩ : ∃ b', L[i]? = some b' := ⟨L[i], List.getElem?_eq_getElem hi⟩
    have hm : b' ∈ L := List.mem_of_getElem? hb'
    refine pk_le L.length i (fun z => absurd z (by omega)) (fun _ => tc_sameAs hen hE4 hE (fun z => (hb z).1) (hLb b' hm) (by omega) ha' (ht i b' hb') (fun e => br_f (by decide) ?_) (fun e => br_t rfl (nm_r (nI_1 i) (hw () ?_))))
    · rw [e] at hm hb'
      have t := H a17 a' (by rw [tc_add_in hm]; exact ht) i _ rfl (by rw [tc_add_in hm]; exact hb')
      rw [tc_add_in hm] at t
      exact t
    · intro j hj z
      by_cases ej : j = i
      · rw [ej, hb'] at z
        exact e (Option.some.inj z)
      · exact hI j (by omega) z
theorem tc_st51_4 {post : Int32 → St2 → Prop} {nE len : Nat} (hen : en = nI nE) (hE : nE ≤ 5) (hlen : len ≤ 5)
    (H : ∀ a : Nat → Int32, (∀ e, e < nE → a (74 * len + e) = a24 e) → (∀ q, q < 74 * len → a q = a17 q) → ∀ r : Int32, r = nI len → post r (dr, ph, ru, no, th, la, en, (nI (len + 1)), wh, tm, tl, co, wo, fs, wf, ws, a1, a2, a3, a4, a5, a6, a7, a8, a9, a10, a11, a12, a13, a14, a15, a16, a, a18, a19, a20, a21, a22, a23, a24, a25, a26, a27, a28, a29, a30, a31)) :
    ∃ n, wX_stateOfTrial_4_51 post dr ph ru no th la en (nI len) wh tm tl co wo fs wf ws n 0 a1 a2 a3 a4 a5 a6 a7 a8 a9 a10 a11 a12 a13 a14 a15 a16 a17 a18 a19 a20 a21 a22 a23 a24 a25 a26 a27 a28 a29 a30 a31 :=
  pk_loop (fun n i s => wX_stateOfTrial_4_51 post dr ph ru no th la en (nI len) wh tm tl co wo fs wf ws n (nI i) a1 a2 a3 a4 a5 a6 a7 a8 a9 a10 a11 a12 a13 a14 a15 a16 s a18 a19 a20 a21 a22 a23 a24 a25 a26 a27 a28 a29 a30 a31) (fun i s => (∀ e, e < i → s (74 * len + e) = a24 e) ∧ ∀ q, q < 74 * len → s q = a17 q) nE 0 a17 (by omega) ⟨fun e he => absurd he (by omega), fun _ _ => rfl⟩
    (fun n s hs => pk_le nE nE (fun _ => nm_r (nI_1 len) (H s hs.1 hs.2 _ (nI_pred len))) (fun z => absurd z (by omega)) hen)
    (fun n i s hi hs hw => pk_le nE i (fun z => absurd z (by omega)) (fun _ => ⟨pk_in i 74 (by omega), pk_in (74 * len + i) 1628 (by omega) (tc_ix len i), nm_e (nm_r (nI_1 i) (hw _ ⟨fun e he => by
      rw [tc_ix, nI_clamp (by omega), nI_clamp (by omega)]
      by_cases e2 : e = i
      · rw [e2, pk_us]
      · rw [pk_un (by omega)]; exact hs.1 e (by omega), fun q hq => by
      rw [tc_ix, nI_clamp (by omega), pk_un (by omega)]; exact hs.2 q hq⟩))⟩) hen)
theorem tc_st_4 {post : Int32 → St2 → Prop} {l c nE : Nat} {L : List Bool} {b : Bool} (hen : en = nI nE) (hE4 : 4 ≤ nE) (hE : nE ≤ 5) (hb : b = true → nE = 5 ∧ c ≤ 9) (hL : L.length ≤ 5)
    (hLb : ∀ x, x ∈ L → x = true → nE = 5) (hsc : sc = nI L.length) (ht : tc_tab l c nE L a17) (h : ∀ e, e < nE → a24 e = tc_vec l c b e)
    (H : ∀ a a' : Nat → Int32, tc_tab l c nE (tc_add L b) a → ∀ (s : Nat) (r : Int32), r = nI s → (tc_add L b)[s]? = some b → post r (dr, ph, ru, no, th, la, en, (nI (tc_add L b).length), wh, tm, 0, co, wo, fs, wf, ws, a1, a2, a3, a4, a5, a6, a7, a8, a9, a10, a11, a12, a13, a14, a15, a16, a, a18, a19, a20, a21, a22, a23, a', a25, a26, a27, a28, a29, a30, a31)) : wpX_stateOfTrial_4 post (dr, ph, ru, no, th, la, en, sc, wh, tm, tl, co, wo, fs, wf, ws, a1, a2, a3, a4, a5, a6, a7, a8, a9, a10, a11, a12, a13, a14, a15, a16, a17, a18, a19, a20, a21, a22, a23, a24, a25, a26, a27, a28, a29, a30, a31) := by
  subst hsc
  unfold wpX_stateOfTrial_4
  refine tc_lower_4 hen hE4 hE hb h (fun a' ha' => ?_)
  refine pk_loop (σ := Unit) (fun n i _ => wX_stateOfTrial_4_6 post dr ph ru no th la en (nI L.length) wh tm 0 co wo fs wf ws a1 a2 a3 a4 a5 a6 a7 a8 a9 a10 a11 a12 a13 a14 a15 a16 a17 a18 a19 a20 a21 a22 a23 a' a25 a26 a27 a28 a29 a30 a31 n (nI i)) (fun i _ => ∀ j, j < i → ¬ L[j]? = some b) L.length 0 () (by omega) (fun j hj => absurd hj (by omega)) ?_ ?_
  · intro n _ hI
    have hnot : ¬ b ∈ L := by
      intro z
      obtain ⟨j, hj, ej⟩ := List.mem_iff_getElem.mp z
      exact hI j hj (by rw [List.getElem?_eq_getElem hj, ej])
    have hA : tc_add L b = L ++ [b] := tc_add_out hnot
    have hn : (tc_add L b).length = L.length + 1 := by rw [hA, List.length_append]; rfl
    refine pk_le L.length L.length (fun _ => br_f ?_ (tc_st51_4 hen hE hL (fun a h1 h2 r hr => ?_))) (fun z => absurd z (by omega))
    · intro z
      have := (nI_eq (a := L.length) (b := 20) (by omega) (by omega)).mp z
      omega
    · have t := H a a' (by rw [hA]; exact tc_tab_add hE ht (fun e he => by rw [h1 e he, ha' e he]) h2) L.length r hr (by rw [hA]; exact tc_get hL)
      rw [hn] at t
      exact t
  · intro n i _ hi hI hw
    obtain ⟨b', hb'⟩ : ∃ b', L[i]? = some b' := ⟨L[i], List.getElem?_eq_getElem hi⟩
    have hm : b' ∈ L := List.mem_of_getElem? hb'
    refine pk_le L.length i (fun z => absurd z (by omega)) (fun _ => tc_sameAs hen hE4 hE (fun z => (hb z).1) (hLb b' hm) (by omega) ha' (ht i b' hb') (fun e => br_f (by decide) ?_) (fun e => br_t rfl (nm_r (nI_1 i) (hw () ?_))))
    · rw [e] at hm hb'
      have t := H a17 a' (by rw [tc_add_in hm]; exact ht) i _ rfl (by rw [tc_add_in hm]; exact hb')
      rw [tc_add_in hm] at t
      exact t
    · intro j hj z
      by_cases ej : j = i
      · rw [ej, hb'] at z
        exact e (Option.some.inj z)
      · exact hI j (by omega) z
theorem tc_st51_5 {post : Int32 → St2 → Prop} {nE len : Nat} (hen : en = nI nE) (hE : nE ≤ 5) (hlen : len ≤ 5)
    (H : ∀ a : Nat → Int32, (∀ e, e < nE → a (74 * len + e) = a24 e) → (∀ q, q < 74 * len → a q = a17 q) → ∀ r : Int32, r = nI len → post r (dr, ph, ru, no, th, la, en, (nI (len + 1)), wh, tm, tl, co, wo, fs, wf, ws, a1, a2, a3, a4, a5, a6, a7, a8, a9, a10, a11, a12, a13, a14, a15, a16, a, a18, a19, a20, a21, a22, a23, a24, a25, a26, a27, a28, a29, a30, a31)) :
    ∃ n, wX_stateOfTrial_5_51 post dr ph ru no th la en (nI len) wh tm tl co wo fs wf ws n 0 a1 a2 a3 a4 a5 a6 a7 a8 a9 a10 a11 a12 a13 a14 a15 a16 a17 a18 a19 a20 a21 a22 a23 a24 a25 a26 a27 a28 a29 a30 a31 :=
  pk_loop (fun n i s => wX_stateOfTrial_5_51 post dr ph ru no th la en (nI len) wh tm tl co wo fs wf ws n (nI i) a1 a2 a3 a4 a5 a6 a7 a8 a9 a10 a11 a12 a13 a14 a15 a16 s a18 a19 a20 a21 a22 a23 a24 a25 a26 a27 a28 a29 a30 a31) (fun i s => (∀ e, e < i → s (74 * len + e) = a24 e) ∧ ∀ q, q < 74 * len → s q = a17 q) nE 0 a17 (by omega) ⟨fun e he => absurd he (by omega), fun _ _ => rfl⟩
    (fun n s hs => pk_le nE nE (fun _ => nm_r (nI_1 len) (H s hs.1 hs.2 _ (nI_pred len))) (fun z => absurd z (by omega)) hen)
    (fun n i s hi hs hw => pk_le nE i (fun z => absurd z (by omega)) (fun _ => ⟨pk_in i 74 (by omega), pk_in (74 * len + i) 1628 (by omega) (tc_ix len i), nm_e (nm_r (nI_1 i) (hw _ ⟨fun e he => by
      rw [tc_ix, nI_clamp (by omega), nI_clamp (by omega)]
      by_cases e2 : e = i
      · rw [e2, pk_us]
      · rw [pk_un (by omega)]; exact hs.1 e (by omega), fun q hq => by
      rw [tc_ix, nI_clamp (by omega), pk_un (by omega)]; exact hs.2 q hq⟩))⟩) hen)
theorem tc_st_5 {post : Int32 → St2 → Prop} {l c nE : Nat} {L : List Bool} {b : Bool} (hen : en = nI nE) (hE4 : 4 ≤ nE) (hE : nE ≤ 5) (hb : b = true → nE = 5 ∧ c ≤ 9) (hL : L.length ≤ 5)
    (hLb : ∀ x, x ∈ L → x = true → nE = 5) (hsc : sc = nI L.length) (ht : tc_tab l c nE L a17) (h : ∀ e, e < nE → a24 e = tc_vec l c b e)
    (H : ∀ a a' : Nat → Int32, tc_tab l c nE (tc_add L b) a → ∀ (s : Nat) (r : Int32), r = nI s → (tc_add L b)[s]? = some b → post r (dr, ph, ru, no, th, la, en, (nI (tc_add L b).length), wh, tm, 0, co, wo, fs, wf, ws, a1, a2, a3, a4, a5, a6, a7, a8, a9, a10, a11, a12, a13, a14, a15, a16, a, a18, a19, a20, a21, a22, a23, a', a25, a26, a27, a28, a29, a30, a31)) : wpX_stateOfTrial_5 post (dr, ph, ru, no, th, la, en, sc, wh, tm, tl, co, wo, fs, wf, ws, a1, a2, a3, a4, a5, a6, a7, a8, a9, a10, a11, a12, a13, a14, a15, a16, a17, a18, a19, a20, a21, a22, a23, a24, a25, a26, a27, a28, a29, a30, a31) := by
  subst hsc
  unfold wpX_stateOfTrial_5
  refine tc_lower_5 hen hE4 hE hb h (fun a' ha' => ?_)
  refine pk_loop (σ := Unit) (fun n i _ => wX_stateOfTrial_5_6 post dr ph ru no th la en (nI L.length) wh tm 0 co wo fs wf ws a1 a2 a3 a4 a5 a6 a7 a8 a9 a10 a11 a12 a13 a14 a15 a16 a17 a18 a19 a20 a21 a22 a23 a' a25 a26 a27 a28 a29 a30 a31 n (nI i)) (fun i _ => ∀ j, j < i → ¬ L[j]? = some b) L.length 0 () (by omega) (fun j hj => absurd hj (by omega)) ?_ ?_
  · intro n _ hI
    have hnot : ¬ b ∈ L := by
      intro z
      obtain ⟨j, hj, ej⟩ := List.mem_iff_getElem.mp z
      exact hI j hj (by rw [List.getElem?_eq_getElem hj, ej])
    have hA : tc_add L b = L ++ [b] := tc_add_out hnot
    have hn : (tc_add L b).length = L.length + 1 := by rw [hA, List.length_append]; rfl
    refine pk_le L.length L.length (fun _ => br_f ?_ (tc_st51_5 hen hE hL (fun a h1 h2 r hr => ?_))) (fun z => absurd z (by omega))
    · intro z
      have := (nI_eq (a := L.length) (b := 20) (by omega) (by omega)).mp z
      omega
    · have t := H a a' (by rw [hA]; exact tc_tab_add hE ht (fun e he => by rw [h1 e he, ha' e he]) h2) L.length r hr (by rw [hA]; exact tc_get hL)
      rw [hn] at t
      exact t
  · intro n i _ hi hI hw
    obtain ⟨b', hb'⟩ : ∃ b', L[i]? = some b' := ⟨L[i], List.getElem?_eq_getElem hi⟩
    have hm : b' ∈ L := List.mem_of_getElem? hb'
    refine pk_le L.length i (fun z => absurd z (by omega)) (fun _ => tc_sameAs hen hE4 hE (fun z => (hb z).1) (hLb b' hm) (by omega) ha' (ht i b' hb') (fun e => br_f (by decide) ?_) (fun e => br_t rfl (nm_r (nI_1 i) (hw () ?_))))
    · rw [e] at hm hb'
      have t := H a17 a' (by rw [tc_add_in hm]; exact ht) i _ rfl (by rw [tc_add_in hm]; exact hb')
      rw [tc_add_in hm] at t
      exact t
    · intro j hj z
      by_cases ej : j = i
      · rw [ej, hb'] at z
        exact e (Option.some.inj z)
      · exact hI j (by omega) z
theorem tc_st51_6 {post : Int32 → St2 → Prop} {nE len : Nat} (hen : en = nI nE) (hE : nE ≤ 5) (hlen : len ≤ 5)
    (H : ∀ a : Nat → Int32, (∀ e, e < nE → a (74 * len + e) = a24 e) → (∀ q, q < 74 * len → a q = a17 q) → ∀ r : Int32, r = nI len → post r (dr, ph, ru, no, th, la, en, (nI (len + 1)), wh, tm, tl, co, wo, fs, wf, ws, a1, a2, a3, a4, a5, a6, a7, a8, a9, a10, a11, a12, a13, a14, a15, a16, a, a18, a19, a20, a21, a22, a23, a24, a25, a26, a27, a28, a29, a30, a31)) :
    ∃ n, wX_stateOfTrial_6_51 post dr ph ru no th la en (nI len) wh tm tl co wo fs wf ws n 0 a1 a2 a3 a4 a5 a6 a7 a8 a9 a10 a11 a12 a13 a14 a15 a16 a17 a18 a19 a20 a21 a22 a23 a24 a25 a26 a27 a28 a29 a30 a31 :=
  pk_loop (fun n i s => wX_stateOfTrial_6_51 post dr ph ru no th la en (nI len) wh tm tl co wo fs wf ws n (nI i) a1 a2 a3 a4 a5 a6 a7 a8 a9 a10 a11 a12 a13 a14 a15 a16 s a18 a19 a20 a21 a22 a23 a24 a25 a26 a27 a28 a29 a30 a31) (fun i s => (∀ e, e < i → s (74 * len + e) = a24 e) ∧ ∀ q, q < 74 * len → s q = a17 q) nE 0 a17 (by omega) ⟨fun e he => absurd he (by omega), fun _ _ => rfl⟩
    (fun n s hs => pk_le nE nE (fun _ => nm_r (nI_1 len) (H s hs.1 hs.2 _ (nI_pred len))) (fun z => absurd z (by omega)) hen)
    (fun n i s hi hs hw => pk_le nE i (fun z => absurd z (by omega)) (fun _ => ⟨pk_in i 74 (by omega), pk_in (74 * len + i) 1628 (by omega) (tc_ix len i), nm_e (nm_r (nI_1 i) (hw _ ⟨fun e he => by
      rw [tc_ix, nI_clamp (by omega), nI_clamp (by omega)]
      by_cases e2 : e = i
      · rw [e2, pk_us]
      · rw [pk_un (by omega)]; exact hs.1 e (by omega), fun q hq => by
      rw [tc_ix, nI_clamp (by omega), pk_un (by omega)]; exact hs.2 q hq⟩))⟩) hen)
theorem tc_st_6 {post : Int32 → St2 → Prop} {l c nE : Nat} {L : List Bool} {b : Bool} (hen : en = nI nE) (hE4 : 4 ≤ nE) (hE : nE ≤ 5) (hb : b = true → nE = 5 ∧ c ≤ 9) (hL : L.length ≤ 5)
    (hLb : ∀ x, x ∈ L → x = true → nE = 5) (hsc : sc = nI L.length) (ht : tc_tab l c nE L a17) (h : ∀ e, e < nE → a24 e = tc_vec l c b e)
    (H : ∀ a a' : Nat → Int32, tc_tab l c nE (tc_add L b) a → ∀ (s : Nat) (r : Int32), r = nI s → (tc_add L b)[s]? = some b → post r (dr, ph, ru, no, th, la, en, (nI (tc_add L b).length), wh, tm, 0, co, wo, fs, wf, ws, a1, a2, a3, a4, a5, a6, a7, a8, a9, a10, a11, a12, a13, a14, a15, a16, a, a18, a19, a20, a21, a22, a23, a', a25, a26, a27, a28, a29, a30, a31)) : wpX_stateOfTrial_6 post (dr, ph, ru, no, th, la, en, sc, wh, tm, tl, co, wo, fs, wf, ws, a1, a2, a3, a4, a5, a6, a7, a8, a9, a10, a11, a12, a13, a14, a15, a16, a17, a18, a19, a20, a21, a22, a23, a24, a25, a26, a27, a28, a29, a30, a31) := by
  subst hsc
  unfold wpX_stateOfTrial_6
  refine tc_lower_6 hen hE4 hE hb h (fun a' ha' => ?_)
  refine pk_loop (σ := Unit) (fun n i _ => wX_stateOfTrial_6_6 post dr ph ru no th la en (nI L.length) wh tm 0 co wo fs wf ws a1 a2 a3 a4 a5 a6 a7 a8 a9 a10 a11 a12 a13 a14 a15 a16 a17 a18 a19 a20 a21 a22 a23 a' a25 a26 a27 a28 a29 a30 a31 n (nI i)) (fun i _ => ∀ j, j < i → ¬ L[j]? = some b) L.length 0 () (by omega) (fun j hj => absurd hj (by omega)) ?_ ?_
  · intro n _ hI
    have hnot : ¬ b ∈ L := by
      intro z
      obtain ⟨j, hj, ej⟩ := List.mem_iff_getElem.mp z
      exact hI j hj (by rw [List.getElem?_eq_getElem hj, ej])
    have hA : tc_add L b = L ++ [b] := tc_add_out hnot
    have hn : (tc_add L b).length = L.length + 1 := by rw [hA, List.length_append]; rfl
    refine pk_le L.length L.length (fun _ => br_f ?_ (tc_st51_6 hen hE hL (fun a h1 h2 r hr => ?_))) (fun z => absurd z (by omega))
    · intro z
      have := (nI_eq (a := L.length) (b := 20) (by omega) (by omega)).mp z
      omega
    · have t := H a a' (by rw [hA]; exact tc_tab_add hE ht (fun e he => by rw [h1 e he, ha' e he]) h2) L.length r hr (by rw [hA]; exact tc_get hL)
      rw [hn] at t
      exact t
  · intro n i _ hi hI hw
    obtain ⟨b', hb'⟩ : ∃ b', L[i]? = some b' := ⟨L[i], List.getElem?_eq_getElem hi⟩
    have hm : b' ∈ L := List.mem_of_getElem? hb'
    refine pk_le L.length i (fun z => absurd z (by omega)) (fun _ => tc_sameAs hen hE4 hE (fun z => (hb z).1) (hLb b' hm) (by omega) ha' (ht i b' hb') (fun e => br_f (by decide) ?_) (fun e => br_t rfl (nm_r (nI_1 i) (hw () ?_))))
    · rw [e] at hm hb'
      have t := H a17 a' (by rw [tc_add_in hm]; exact ht) i _ rfl (by rw [tc_add_in hm]; exact hb')
      rw [tc_add_in hm] at t
      exact t
    · intro j hj z
      by_cases ej : j = i
      · rw [ej, hb'] at z
        exact e (Option.some.inj z)
      · exact hI j (by omega) z
end
end
section
section
variable {dr ph ru no th la en sc wh tm tl co wo fs wf ws : Int32} {a1 a2 a3 a4 a5 a6 a7 a8 a9 a10 a11 a12 a13 a14 a15 a16 a17 a18 a19 a20 a21 a22 a23 a24 a25 a26 a27 a28 a29 a30 a31 : Nat → Int32}
def tc_inv (k l c o g nE : Nat) (L : List Bool) (ru en sc : Int32) (a3 a4 a12 a13 a15 a17 : Nat → Int32) : Prop :=
  tc_cfg k l c o g nE ru en a3 a4 a12 a13 a15 ∧ sc = nI L.length ∧ L.Nodup ∧ (∀ x, x ∈ L → x = true → k = 3) ∧ tc_tab l c nE L a17
theorem tc_nd2 {L : List Bool} (h : L.Nodup) : L.length ≤ 2 := by
  match L, h with
  | [], _ => exact Nat.zero_le 2
  | [_], _ => exact Nat.le_succ 1
  | [_, _], _ => exact Nat.le_refl 2
  | x :: y :: z :: t, h =>
    exfalso
    cases x <;> cases y <;> cases z <;> simp at h
theorem tc_nd_add {L : List Bool} {b : Bool} (h : L.Nodup) : (tc_add L b).Nodup := by
  by_cases hb : b ∈ L
  · rw [tc_add_in hb]; exact h
  · rw [tc_add_out hb]
    refine List.nodup_append.mpr ⟨h, by simp, ?_⟩
    intro x hx y hy e
    rw [List.mem_singleton] at hy
    rw [e, hy] at hx
    exact hb hx
theorem tc_inv_add {k l c o g nE : Nat} {L : List Bool} {ru en sc : Int32} {a3 a4 a12 a13 a15 a17 a : Nat → Int32} {b : Bool} (h : tc_inv k l c o g nE L ru en sc a3 a4 a12 a13 a15 a17) (hb : b = true → k = 3) (ht : tc_tab l c nE (tc_add L b) a) :
    tc_inv k l c o g nE (tc_add L b) ru en (nI (tc_add L b).length) a3 a4 a12 a13 a15 a := by
  obtain ⟨hc, _, hn, hk, _⟩ := h
  refine ⟨hc, rfl, tc_nd_add hn, fun x hx hx1 => ?_, ht⟩
  rcases tc_add_sub hx with z | z
  · exact hk x z hx1
  · exact hb (by rw [← z]; exact hx1)
theorem tc_inv_b {k l c o g nE : Nat} {L : List Bool} {ru en sc : Int32} {a3 a4 a12 a13 a15 a17 : Nat → Int32} {b : Bool} (h : tc_inv k l c o g nE L ru en sc a3 a4 a12 a13 a15 a17) (hb : b = true → k = 3) : b = true → nE = 5 ∧ c ≤ 9 := by
  intro z
  have hk := hb z
  subst hk
  have t := tc_cfg_3 h.1
  exact ⟨t.1, t.2.2.2.1⟩
/-- a run of an operator over states, and the state that it gives: for each of the four steps -/
theorem tc_run_3 {post : Int32 → St2 → Prop} {Q : St2 → Prop} {k l c o g nE p : Nat} {L : List Bool} (HQ : ∀ a : Nat → Int32, wpX_stateOfTrial_3 post (dr, ph, ru, no, th, la, en, sc, wh, tm, tl, co, wo, fs, wf, ws, a1, a2, a3, a4, a5, a6, a7, a8, a9, a10, a11, a12, a13, a14, a15, a16, a17, a18, a19, a20, a21, a22, a23, a, a25, a26, a27, a28, a29, a30, a31) → Q (dr, ph, ru, no, th, la, en, sc, wh, tm, tl, co, wo, fs, wf, ws, a1, a2, a3, a4, a5, a6, a7, a8, a9, a10, a11, a12, a13, a14, a15, a16, a17, a18, a19, a20, a21, a22, a23, a, a25, a26, a27, a28, a29, a30, a31)) (hi : tc_inv k l c o g nE L ru en sc a3 a4 a12 a13 a15 a17) (hp : p < 6)
    (hs : k = 2 → p = o → ¬ fs = 0 ∧ ∃ s, wf = nI s ∧ s ≤ 20 ∧ a17 (74 * s + g) = 1000000)
    (H : ∀ (a a' : Nat → Int32) (s : Nat) (r : Int32), r = nI s → (tc_add L (tc_hit k o p))[s]? = some (tc_hit k o p) → tc_inv k l c o g nE (tc_add L (tc_hit k o p)) ru en (nI (tc_add L (tc_hit k o p)).length) a3 a4 a12 a13 a15 a →
      post r (dr, ph, ru, no, th, la, en, (nI (tc_add L (tc_hit k o p)).length), wh, tm, 0, co, wo, fs, wf, ws, a1, a2, a3, a4, a5, a6, a7, a8, a9, a10, a11, a12, a13, a14, a15, a16, a, a18, a19, a20, a21, a22, a23, a', a25, a26, a27, a28, a29, a30, a31)) :
    wpX_tryOperator Q (dr, ph, ru, no, th, la, en, sc, wh, tm, tl, co, wo, fs, wf, ws, a1, a2, a3, a4, a5, a6, a7, a8, a9, a10, a11, a12, a13, a14, a15, a16, a17, a18, a19, a20, a21, a22, a23, a24, a25, a26, a27, a28, a29, a30, a31) (nI p) := by
  have hb : tc_hit k o p = true → k = 3 := fun z => (tc_hitT z).1
  obtain ⟨hen, hE4, hE5⟩ := tc_cfg_en hi.1
  have hL2 := tc_nd2 hi.2.2.1
  refine tc_try hi.1 hp hs (fun a ha => ?_)
  exact HQ a <| tc_st_3 hen hE4 hE5 (tc_inv_b hi hb) (by omega) (fun x hx hx1 => (tc_inv_b hi (hi.2.2.2.1 x hx) hx1).1) hi.2.1 hi.2.2.2.2 ha (fun a1 a2 ht s r hr hg => H a1 a2 s r hr hg (tc_inv_add hi hb ht))
theorem tc_run_4 {post : Int32 → St2 → Prop} {Q : St2 → Prop} {k l c o g nE p : Nat} {L : List Bool} (HQ : ∀ a : Nat → Int32, wpX_stateOfTrial_4 post (dr, ph, ru, no, th, la, en, sc, wh, tm, tl, co, wo, fs, wf, ws, a1, a2, a3, a4, a5, a6, a7, a8, a9, a10, a11, a12, a13, a14, a15, a16, a17, a18, a19, a20, a21, a22, a23, a, a25, a26, a27, a28, a29, a30, a31) → Q (dr, ph, ru, no, th, la, en, sc, wh, tm, tl, co, wo, fs, wf, ws, a1, a2, a3, a4, a5, a6, a7, a8, a9, a10, a11, a12, a13, a14, a15, a16, a17, a18, a19, a20, a21, a22, a23, a, a25, a26, a27, a28, a29, a30, a31)) (hi : tc_inv k l c o g nE L ru en sc a3 a4 a12 a13 a15 a17) (hp : p < 6)
    (hs : k = 2 → p = o → ¬ fs = 0 ∧ ∃ s, wf = nI s ∧ s ≤ 20 ∧ a17 (74 * s + g) = 1000000)
    (H : ∀ (a a' : Nat → Int32) (s : Nat) (r : Int32), r = nI s → (tc_add L (tc_hit k o p))[s]? = some (tc_hit k o p) → tc_inv k l c o g nE (tc_add L (tc_hit k o p)) ru en (nI (tc_add L (tc_hit k o p)).length) a3 a4 a12 a13 a15 a →
      post r (dr, ph, ru, no, th, la, en, (nI (tc_add L (tc_hit k o p)).length), wh, tm, 0, co, wo, fs, wf, ws, a1, a2, a3, a4, a5, a6, a7, a8, a9, a10, a11, a12, a13, a14, a15, a16, a, a18, a19, a20, a21, a22, a23, a', a25, a26, a27, a28, a29, a30, a31)) :
    wpX_tryOperator_2 Q (dr, ph, ru, no, th, la, en, sc, wh, tm, tl, co, wo, fs, wf, ws, a1, a2, a3, a4, a5, a6, a7, a8, a9, a10, a11, a12, a13, a14, a15, a16, a17, a18, a19, a20, a21, a22, a23, a24, a25, a26, a27, a28, a29, a30, a31) (nI p) := by
  have hb : tc_hit k o p = true → k = 3 := fun z => (tc_hitT z).1
  obtain ⟨hen, hE4, hE5⟩ := tc_cfg_en hi.1
  have hL2 := tc_nd2 hi.2.2.1
  refine tc_try_2 hi.1 hp hs (fun a ha => ?_)
  exact HQ a <| tc_st_4 hen hE4 hE5 (tc_inv_b hi hb) (by omega) (fun x hx hx1 => (tc_inv_b hi (hi.2.2.2.1 x hx) hx1).1) hi.2.1 hi.2.2.2.2 ha (fun a1 a2 ht s r hr hg => H a1 a2 s r hr hg (tc_inv_add hi hb ht))
theorem tc_run_5 {post : Int32 → St2 → Prop} {Q : St2 → Prop} {k l c o g nE p : Nat} {L : List Bool} (HQ : ∀ a : Nat → Int32, wpX_stateOfTrial_5 post (dr, ph, ru, no, th, la, en, sc, wh, tm, tl, co, wo, fs, wf, ws, a1, a2, a3, a4, a5, a6, a7, a8, a9, a10, a11, a12, a13, a14, a15, a16, a17, a18, a19, a20, a21, a22, a23, a, a25, a26, a27, a28, a29, a30, a31) → Q (dr, ph, ru, no, th, la, en, sc, wh, tm, tl, co, wo, fs, wf, ws, a1, a2, a3, a4, a5, a6, a7, a8, a9, a10, a11, a12, a13, a14, a15, a16, a17, a18, a19, a20, a21, a22, a23, a, a25, a26, a27, a28, a29, a30, a31)) (hi : tc_inv k l c o g nE L ru en sc a3 a4 a12 a13 a15 a17) (hp : p < 6)
    (hs : k = 2 → p = o → ¬ fs = 0 ∧ ∃ s, wf = nI s ∧ s ≤ 20 ∧ a17 (74 * s + g) = 1000000)
    (H : ∀ (a a' : Nat → Int32) (s : Nat) (r : Int32), r = nI s → (tc_add L (tc_hit k o p))[s]? = some (tc_hit k o p) → tc_inv k l c o g nE (tc_add L (tc_hit k o p)) ru en (nI (tc_add L (tc_hit k o p)).length) a3 a4 a12 a13 a15 a →
      post r (dr, ph, ru, no, th, la, en, (nI (tc_add L (tc_hit k o p)).length), wh, tm, 0, co, wo, fs, wf, ws, a1, a2, a3, a4, a5, a6, a7, a8, a9, a10, a11, a12, a13, a14, a15, a16, a, a18, a19, a20, a21, a22, a23, a', a25, a26, a27, a28, a29, a30, a31)) :
    wpX_tryOperator_2 Q (dr, ph, ru, no, th, la, en, sc, wh, tm, tl, co, wo, fs, wf, ws, a1, a2, a3, a4, a5, a6, a7, a8, a9, a10, a11, a12, a13, a14, a15, a16, a17, a18, a19, a20, a21, a22, a23, a24, a25, a26, a27, a28, a29, a30, a31) (nI p) := by
  have hb : tc_hit k o p = true → k = 3 := fun z => (tc_hitT z).1
  obtain ⟨hen, hE4, hE5⟩ := tc_cfg_en hi.1
  have hL2 := tc_nd2 hi.2.2.1
  refine tc_try_2 hi.1 hp hs (fun a ha => ?_)
  exact HQ a <| tc_st_5 hen hE4 hE5 (tc_inv_b hi hb) (by omega) (fun x hx hx1 => (tc_inv_b hi (hi.2.2.2.1 x hx) hx1).1) hi.2.1 hi.2.2.2.2 ha (fun a1 a2 ht s r hr hg => H a1 a2 s r hr hg (tc_inv_add hi hb ht))
theorem tc_run_6 {post : Int32 → St2 → Prop} {Q : St2 → Prop} {k l c o g nE p : Nat} {L : List Bool} (HQ : ∀ a : Nat → Int32, wpX_stateOfTrial_6 post (dr, ph, ru, no, th, la, en, sc, wh, tm, tl, co, wo, fs, wf, ws, a1, a2, a3, a4, a5, a6, a7, a8, a9, a10, a11, a12, a13, a14, a15, a16, a17, a18, a19, a20, a21, a22, a23, a, a25, a26, a27, a28, a29, a30, a31) → Q (dr, ph, ru, no, th, la, en, sc, wh, tm, tl, co, wo, fs, wf, ws, a1, a2, a3, a4, a5, a6, a7, a8, a9, a10, a11, a12, a13, a14, a15, a16, a17, a18, a19, a20, a21, a22, a23, a, a25, a26, a27, a28, a29, a30, a31)) (hi : tc_inv k l c o g nE L ru en sc a3 a4 a12 a13 a15 a17) (hp : p < 6)
    (hs : k = 2 → p = o → ¬ fs = 0 ∧ ∃ s, wf = nI s ∧ s ≤ 20 ∧ a17 (74 * s + g) = 1000000)
    (H : ∀ (a a' : Nat → Int32) (s : Nat) (r : Int32), r = nI s → (tc_add L (tc_hit k o p))[s]? = some (tc_hit k o p) → tc_inv k l c o g nE (tc_add L (tc_hit k o p)) ru en (nI (tc_add L (tc_hit k o p)).length) a3 a4 a12 a13 a15 a →
      post r (dr, ph, ru, no, th, la, en, (nI (tc_add L (tc_hit k o p)).length), wh, tm, 0, co, wo, fs, wf, ws, a1, a2, a3, a4, a5, a6, a7, a8, a9, a10, a11, a12, a13, a14, a15, a16, a, a18, a19, a20, a21, a22, a23, a', a25, a26, a27, a28, a29, a30, a31)) :
    wpX_tryOperator_2 Q (dr, ph, ru, no, th, la, en, sc, wh, tm, tl, co, wo, fs, wf, ws, a1, a2, a3, a4, a5, a6, a7, a8, a9, a10, a11, a12, a13, a14, a15, a16, a17, a18, a19, a20, a21, a22, a23, a24, a25, a26, a27, a28, a29, a30, a31) (nI p) := by
  have hb : tc_hit k o p = true → k = 3 := fun z => (tc_hitT z).1
  obtain ⟨hen, hE4, hE5⟩ := tc_cfg_en hi.1
  have hL2 := tc_nd2 hi.2.2.1
  refine tc_try_2 hi.1 hp hs (fun a ha => ?_)
  exact HQ a <| tc_st_6 hen hE4 hE5 (tc_inv_b hi hb) (by omega) (fun x hx hx1 => (tc_inv_b hi (hi.2.2.2.1 x hx) hx1).1) hi.2.1 hi.2.2.2.2 ha (fun a1 a2 ht s r hr hg => H a1 a2 s r hr hg (tc_inv_add hi hb ht))
theorem tc_leafN {post : Int32 → St2 → Prop} {k l c o g nE p : Nat} {L : List Bool} (hi : tc_inv k l c o g nE L ru en sc a3 a4 a12 a13 a15 a17) (hp : p < 2) (h18 : a18 p = -1)
    (H : ∀ (r : Int32) (s : Nat) (b17 b18 b19 b24 : Nat → Int32), r = nI s → (tc_add L (tc_hit k o p))[s]? = some (tc_hit k o p) → tc_inv k l c o g nE (tc_add L (tc_hit k o p)) ru en (nI (tc_add L (tc_hit k o p)).length) a3 a4 a12 a13 a15 b17 →
      b18 = upd a18 p (nI s) → b19 = upd a19 p 0 → post r (dr, ph, ru, no, th, la, en, (nI (tc_add L (tc_hit k o p)).length), wh, tm, 0, co, wo, 1, 0, 0, a1, a2, a3, a4, a5, a6, a7, a8, a9, a10, a11, a12, a13, a14, a15, a16, b17, b18, b19, a20, a21, a22, a23, b24, a25, a26, a27, a28, a29, a30, a31)) :
    wpX_leafStep post (dr, ph, ru, no, th, la, en, sc, wh, tm, tl, co, wo, fs, wf, ws, a1, a2, a3, a4, a5, a6, a7, a8, a9, a10, a11, a12, a13, a14, a15, a16, a17, a18, a19, a20, a21, a22, a23, a24, a25, a26, a27, a28, a29, a30, a31) (nI p) := by
  have e := nI_clamp (n := p) (by omega)
  have hs : k = 2 → p = o → ¬ (1 : Int32) = 0 ∧ ∃ s, (0 : Int32) = nI s ∧ s ≤ 20 ∧ a17 (74 * s + g) = 1000000 := by
    intro hk ho
    exfalso
    rcases hi.1 with ⟨z, _⟩ | ⟨_, _, _, _, _, _, ⟨z, _⟩ | ⟨_, _, _, z, _⟩ | ⟨z, _⟩⟩
    · omega
    · omega
    · omega
    · omega
  unfold wpX_leafStep
  refine ⟨pk_in p 2 hp, br_t (by rw [e]; exact h18) ⟨rfl, rfl, ?_⟩⟩
  refine tc_run_3 (fs := 1) (wf := 0) (ws := 0) (fun _ h => h) hi (by omega) hs (fun a a' s r hr hg hin => ?_)
  exact ⟨pk_in p 2 hp, nm_e ⟨pk_in p 2 hp, nm_e ⟨pk_in p 2 hp, H _ s a _ _ a' (by rw [e, pk_us, hr]) hg hin (by rw [e, hr]) (by rw [e])⟩⟩⟩
theorem tc_leafN_2 {post : Int32 → St2 → Prop} {k l c o g nE p : Nat} {L : List Bool} (hi : tc_inv k l c o g nE L ru en sc a3 a4 a12 a13 a15 a17) (hp : p < 2) (h18 : a18 p = -1)
    (H : ∀ (r : Int32) (s : Nat) (b17 b18 b19 b24 : Nat → Int32), r = nI s → (tc_add L (tc_hit k o p))[s]? = some (tc_hit k o p) → tc_inv k l c o g nE (tc_add L (tc_hit k o p)) ru en (nI (tc_add L (tc_hit k o p)).length) a3 a4 a12 a13 a15 b17 →
      b18 = upd a18 p (nI s) → b19 = upd a19 p 0 → post r (dr, ph, ru, no, th, la, en, (nI (tc_add L (tc_hit k o p)).length), wh, tm, 0, co, wo, 1, 0, 0, a1, a2, a3, a4, a5, a6, a7, a8, a9, a10, a11, a12, a13, a14, a15, a16, b17, b18, b19, a20, a21, a22, a23, b24, a25, a26, a27, a28, a29, a30, a31)) :
    wpX_leafStep_2 post (dr, ph, ru, no, th, la, en, sc, wh, tm, tl, co, wo, fs, wf, ws, a1, a2, a3, a4, a5, a6, a7, a8, a9, a10, a11, a12, a13, a14, a15, a16, a17, a18, a19, a20, a21, a22, a23, a24, a25, a26, a27, a28, a29, a30, a31) (nI p) := by
  have e := nI_clamp (n := p) (by omega)
  have hs : k = 2 → p = o → ¬ (1 : Int32) = 0 ∧ ∃ s, (0 : Int32) = nI s ∧ s ≤ 20 ∧ a17 (74 * s + g) = 1000000 := by
    intro hk ho
    exfalso
    rcases hi.1 with ⟨z, _⟩ | ⟨_, _, _, _, _, _, ⟨z, _⟩ | ⟨_, _, _, z, _⟩ | ⟨z, _⟩⟩
    · omega
    · omega
    · omega
    · omega
  unfold wpX_leafStep_2
  refine ⟨pk_in p 2 hp, br_t (by rw [e]; exact h18) ⟨rfl, rfl, ?_⟩⟩
  refine tc_run_4 (fs := 1) (wf := 0) (ws := 0) (fun _ h => h) hi (by omega) hs (fun a a' s r hr hg hin => ?_)
  exact ⟨pk_in p 2 hp, nm_e ⟨pk_in p 2 hp, nm_e ⟨pk_in p 2 hp, H _ s a _ _ a' (by rw [e, pk_us, hr]) hg hin (by rw [e, hr]) (by rw [e])⟩⟩⟩
theorem tc_leaf2 {post : Int32 → St2 → Prop} {k l c o g nE p : Nat} {L : List Bool} (hi : tc_inv k l c o g nE L ru en sc a3 a4 a12 a13 a15 a17) (hp : p < 2) (h18 : a18 p = -1 ∨ tc_hit k o p ∈ L)
    (H : ∀ (r xl xs xf xg : Int32) (b17 b18 b19 b24 : Nat → Int32), tc_inv k l c o g nE (tc_add L (tc_hit k o p)) ru en (nI (tc_add L (tc_hit k o p)).length) a3 a4 a12 a13 a15 b17 →
      (∀ q, q ≠ p → b18 q = a18 q) → post r (dr, ph, ru, no, th, la, en, (nI (tc_add L (tc_hit k o p)).length), wh, tm, xl, co, wo, xs, xf, xg, a1, a2, a3, a4, a5, a6, a7, a8, a9, a10, a11, a12, a13, a14, a15, a16, b17, b18, b19, a20, a21, a22, a23, b24, a25, a26, a27, a28, a29, a30, a31)) :
    wpX_leafStep_2 post (dr, ph, ru, no, th, la, en, sc, wh, tm, tl, co, wo, fs, wf, ws, a1, a2, a3, a4, a5, a6, a7, a8, a9, a10, a11, a12, a13, a14, a15, a16, a17, a18, a19, a20, a21, a22, a23, a24, a25, a26, a27, a28, a29, a30, a31) (nI p) := by
  by_cases h : a18 p = -1
  · exact tc_leafN_2 hi hp h (fun r s b17 b18 b19 b24 _ _ hin h1 _ => H r 0 1 0 0 b17 b18 b19 b24 hin (fun q hq => by rw [h1, pk_un hq]))
  · have hm : tc_hit k o p ∈ L := h18.resolve_left h
    have e := nI_clamp (n := p) (by omega)
    unfold wpX_leafStep_2
    refine ⟨pk_in p 2 hp, br_f (by rw [e]; exact h) ⟨pk_in p 2 hp, ?_⟩⟩
    have t := fun hin => H (a18 (nI p).toNatClampNeg) tl fs wf ws a17 a18 a19 a24 hin (fun _ _ => rfl)
    rw [tc_add_in hm, ← hi.2.1] at t
    exact t hi
theorem tc_hs {k l c o g nE s : Nat} {L : List Bool} {ru en sc : Int32} {a3 a4 a12 a13 a15 a17 : Nat → Int32} (hi : tc_inv k l c o g nE L ru en sc a3 a4 a12 a13 a15 a17) (hs : s < L.length) (p : Nat) :
    k = 2 → p = o → ¬ (1 : Int32) = 0 ∧ ∃ t, nI s = nI t ∧ t ≤ 20 ∧ a17 (74 * t + g) = 1000000 := by
  intro hk _
  have hL2 := tc_nd2 hi.2.2.1
  refine ⟨by decide, s, rfl, by omega, ?_⟩
  have hx : L[s]? = some L[s] := List.getElem?_eq_getElem hs
  have hE := (tc_cfg_en hi.1).2
  have hg : g < 4 := by
    rcases hi.1 with ⟨z, _⟩ | ⟨_, _, _, _, _, _, ⟨z, _⟩ | ⟨_, _, z, _⟩ | ⟨z, _⟩⟩
    · omega
    · omega
    · exact z
    · omega
  rw [hi.2.2.2.2 s _ hx g (by omega)]
  have hf : L[s] = false := by
    cases hh : L[s] with
    | false => rfl
    | true =>
      have := hi.2.2.2.1 L[s] (List.getElem_mem hs) hh
      omega
  rw [hf, tc_vecF]
theorem tc_hit0 {k l c o g nE p : Nat} {ru en : Int32} {a3 a4 a12 a13 a15 : Nat → Int32} (hc : tc_cfg k l c o g nE ru en a3 a4 a12 a13 a15) (hp : 2 ≤ p) : tc_hit k o p = false := by
  refine tc_hitF (fun z => ?_)
  obtain ⟨hk, ho⟩ := z
  subst hk
  have := (tc_cfg_3 hc).2.2.2.2.2.2.1
  omega
theorem tc_one {post : Int32 → St2 → Prop} {k l c o g nE p s : Nat} {L : List Bool} (hi : tc_inv k l c o g nE L ru en sc a3 a4 a12 a13 a15 a17) (hp2 : 2 ≤ p) (hp : p < 4) (hs : s < L.length) (hf : false ∈ L)
    (H : ∀ (r xl xs xf xg : Int32) (b17 b20 b21 b24 : Nat → Int32), tc_inv k l c o g nE L ru en sc a3 a4 a12 a13 a15 b17 → post r (dr, ph, ru, no, th, la, en, sc, wh, tm, xl, co, wo, xs, xf, xg, a1, a2, a3, a4, a5, a6, a7, a8, a9, a10, a11, a12, a13, a14, a15, a16, b17, a18, a19, b20, b21, a22, a23, b24, a25, a26, a27, a28, a29, a30, a31)) :
    wpX_oneStep_2 post (dr, ph, ru, no, th, la, en, sc, wh, tm, tl, co, wo, fs, wf, ws, a1, a2, a3, a4, a5, a6, a7, a8, a9, a10, a11, a12, a13, a14, a15, a16, a17, a18, a19, a20, a21, a22, a23, a24, a25, a26, a27, a28, a29, a30, a31) (nI p) (nI s) := by
  have hL2 := tc_nd2 hi.2.2.1
  have hh : tc_hit k o p = false := tc_hit0 hi.1 hp2
  have hx : 22 * (nI p - 2) + nI s = nI (22 * (p - 2) + s) := by
    show nI 22 * (nI p - nI 2) + nI s = nI (22 * (p - 2) + s)
    rw [pk_sub hp2, pk_mul, nI_add]
  have hv : vp_in (nI (22 * (p - 2) + s)) 44 := vp_in_nI (by omega) (by omega)
  unfold wpX_oneStep_2
  refine nm_r hx ⟨hv, br_c (fun _ => ⟨rfl, rfl, ?_⟩) (fun _ => ⟨hv, H _ _ _ _ _ _ _ _ _ hi⟩)⟩
  refine tc_run_5 (fs := 1) (wf := nI s) (ws := 0) (fun _ h => h) hi (by omega) (tc_hs hi hs p) (fun a a' t r hr hg hin => ?_)
  rw [hh, tc_add_in hf, ← hi.2.1] at hin
  rw [hh, tc_add_in hf, ← hi.2.1]
  exact ⟨hv, nm_e ⟨hv, nm_e ⟨hv, H _ _ _ _ _ _ _ _ _ hin⟩⟩⟩
theorem tc_two {post : Int32 → St2 → Prop} {k l c o g nE p s t : Nat} {L : List Bool} (hi : tc_inv k l c o g nE L ru en sc a3 a4 a12 a13 a15 a17) (hp2 : 4 ≤ p) (hp : p < 6) (hs : s < L.length) (ht : t < L.length) (hf : false ∈ L)
    (H : ∀ (r xl xs xf xg : Int32) (b17 b22 b23 b24 : Nat → Int32), tc_inv k l c o g nE L ru en sc a3 a4 a12 a13 a15 b17 → post r (dr, ph, ru, no, th, la, en, sc, wh, tm, xl, co, wo, xs, xf, xg, a1, a2, a3, a4, a5, a6, a7, a8, a9, a10, a11, a12, a13, a14, a15, a16, b17, a18, a19, a20, a21, b22, b23, b24, a25, a26, a27, a28, a29, a30, a31)) :
    wpX_twoStep_2 post (dr, ph, ru, no, th, la, en, sc, wh, tm, tl, co, wo, fs, wf, ws, a1, a2, a3, a4, a5, a6, a7, a8, a9, a10, a11, a12, a13, a14, a15, a16, a17, a18, a19, a20, a21, a22, a23, a24, a25, a26, a27, a28, a29, a30, a31) (nI p) (nI s) (nI t) := by
  have hL2 := tc_nd2 hi.2.2.1
  have hh : tc_hit k o p = false := tc_hit0 hi.1 (by omega)
  have hx : 484 * (nI p - 4) + 22 * nI s + nI t = nI (484 * (p - 4) + 22 * s + t) := by
    show nI 484 * (nI p - nI 4) + nI 22 * nI s + nI t = nI (484 * (p - 4) + 22 * s + t)
    rw [pk_sub hp2, pk_mul, pk_mul, nI_add, nI_add]
  have hv : vp_in (nI (484 * (p - 4) + 22 * s + t)) 968 := vp_in_nI (by omega) (by omega)
  unfold wpX_twoStep_2
  refine nm_r hx ⟨hv, br_c (fun _ => ⟨rfl, rfl, ?_⟩) (fun _ => ⟨hv, H _ _ _ _ _ _ _ _ _ hi⟩)⟩
  refine tc_run_6 (fs := 1) (wf := nI s) (ws := nI t) (fun _ h => h) hi (by omega) (tc_hs hi hs p) (fun a a' q r hr hg hin => ?_)
  rw [hh, tc_add_in hf, ← hi.2.1] at hin
  rw [hh, tc_add_in hf, ← hi.2.1]
  exact ⟨hv, nm_e ⟨hv, nm_e ⟨hv, H _ _ _ _ _ _ _ _ _ hin⟩⟩⟩
end
end
section
section
variable {dr ph ru no th la en sc wh tm tl co wo fs wf ws : Int32} {a1 a2 a3 a4 a5 a6 a7 a8 a9 a10 a11 a12 a13 a14 a15 a16 a17 a18 a19 a20 a21 a22 a23 a24 a25 a26 a27 a28 a29 a30 a31 : Nat → Int32}
/-- the rule as it was given, ahead of layOut -/
def tc_pre (k l c o g : Nat) (ru : Int32) (a3 a4 a5 a6 : Nat → Int32) : Prop :=
  (k = 0 ∧ ru = nI 0) ∨
  (ru = nI 1 ∧ l < 4 ∧ c ≤ 9 ∧ a3 0 = nI l ∧ a4 0 = nI c ∧
    ((k = 1 ∧ g < 4 ∧ a5 0 = nI 1 ∧ a6 0 = (-1) - nI g) ∨
     (k = 2 ∧ g < 4 ∧ 2 ≤ o ∧ o < 4 ∧ a5 0 = nI 2 ∧ a6 0 = (-1) - nI g ∧ a6 1 = nI o) ∨
     (k = 3 ∧ o < 2 ∧ a5 0 = nI 1 ∧ a6 0 = nI o)))
theorem tc_neg {g : Nat} (hg : g < 4) : (-1 : Int32) - ((-1) - nI g) = nI g ∧ (-1 : Int32) - nI g < 0 := by
  have h : g = 0 ∨ g = 1 ∨ g = 2 ∨ g = 3 := by omega
  rcases h with h | h | h | h <;> subst h <;> decide
theorem tc_lr1 {post : St2 → Prop} {g : Nat} (hg : g < 4) (h5 : a5 0 = nI 1) (h6 : a6 0 = (-1) - nI g)
    (H : ∀ b15 b16 : Nat → Int32, b15 0 = nI g → post (dr, ph, ru, no, th, la, 4, sc, wh, tm, tl, co, wo, fs, wf, ws, a1, a2, a3, a4, a5, a6, a7, a8, a9, a10, a11, a12, a13, a14, b15, b16, a17, a18, a19, a20, a21, a22, a23, a24, a25, a26, a27, a28, a29, a30, a31)) : wpX_layRule post (dr, ph, ru, no, th, la, 4, sc, wh, tm, tl, co, wo, fs, wf, ws, a1, a2, a3, a4, a5, a6, a7, a8, a9, a10, a11, a12, a13, a14, a15, a16, a17, a18, a19, a20, a21, a22, a23, a24, a25, a26, a27, a28, a29, a30, a31) 0 := by
  have i0 : vp_in (0 : Int32) 10 := pk_in 0 10 (by omega)
  have e6 : a6 ((7 : Int32) * 0 + 0).toNatClampNeg = (-1) - nI g := by rw [show ((7 : Int32) * 0 + 0).toNatClampNeg = 0 by decide]; exact h6
  unfold wpX_layRule
  refine ⟨2, i0, br_f (by rw [tc_cl0, h5]; decide) ⟨pk_in 0 70 (by omega) (by decide), nm_r e6 (nm_r (tc_neg hg).1 (br_t (tc_neg hg).2 ⟨pk_in 0 7 (by omega), nm_e (nm_e (nm_e ⟨i0, br_t (by rw [tc_cl0, h5]; decide) ⟨i0, nm_e (H _ _ ?_)⟩⟩))⟩))⟩⟩
  rw [tc_cl0, pk_us, pk_us]
theorem tc_lr3_0 {post : St2 → Prop} (h5 : a5 0 = nI 1) (h6 : a6 0 = nI 0)
    (H : ∀ b12 b13 b14 b15 b16 : Nat → Int32, b12 4 = nI 0 → b15 0 = nI 4 → post (dr, ph, ru, no, th, la, (nI 5), sc, wh, tm, tl, co, wo, fs, wf, ws, a1, a2, a3, a4, a5, a6, a7, a8, a9, a10, a11, b12, b13, b14, b15, b16, a17, a18, a19, a20, a21, a22, a23, a24, a25, a26, a27, a28, a29, a30, a31)) : wpX_layRule post (dr, ph, ru, no, th, la, 4, sc, wh, tm, tl, co, wo, fs, wf, ws, a1, a2, a3, a4, a5, a6, a7, a8, a9, a10, a11, a12, a13, a14, a15, a16, a17, a18, a19, a20, a21, a22, a23, a24, a25, a26, a27, a28, a29, a30, a31) 0 := by
  have i0 : vp_in (0 : Int32) 10 := pk_in 0 10 (by omega)
  have i4 : vp_in (4 : Int32) 74 := pk_in 4 74 (by omega)
  have e6 : a6 ((7 : Int32) * 0 + 0).toNatClampNeg = nI 0 := by rw [show ((7 : Int32) * 0 + 0).toNatClampNeg = 0 by decide]; exact h6
  unfold wpX_layRule
  refine ⟨2, i0, br_f (by rw [tc_cl0, h5]; decide) ⟨pk_in 0 70 (by omega) (by decide), nm_r e6 (nm_e (br_f (by decide) ⟨by decide, i4, nm_e (br_t (by decide) ⟨i4, nm_e (br_t (by decide) ⟨i4, nm_e (nm_r (e' := nI 5) (by decide) (nm_r (e' := 0) (by decide) ⟨pk_in 0 7 (by omega), nm_e (nm_e (nm_e ⟨i0, br_t (by rw [tc_cl0, h5]; decide) ⟨i0, nm_e (H _ _ _ _ _ ?_ ?_)⟩⟩))⟩))⟩)⟩)⟩))⟩⟩
  · rw [tc_c4, pk_us]
  · rw [tc_cl0, pk_us, pk_us]
    rfl
theorem tc_lr3_1 {post : St2 → Prop} (h5 : a5 0 = nI 1) (h6 : a6 0 = nI 1)
    (H : ∀ b12 b13 b14 b15 b16 : Nat → Int32, b12 4 = nI 1 → b15 0 = nI 4 → post (dr, ph, ru, no, th, la, (nI 5), sc, wh, tm, tl, co, wo, fs, wf, ws, a1, a2, a3, a4, a5, a6, a7, a8, a9, a10, a11, b12, b13, b14, b15, b16, a17, a18, a19, a20, a21, a22, a23, a24, a25, a26, a27, a28, a29, a30, a31)) : wpX_layRule post (dr, ph, ru, no, th, la, 4, sc, wh, tm, tl, co, wo, fs, wf, ws, a1, a2, a3, a4, a5, a6, a7, a8, a9, a10, a11, a12, a13, a14, a15, a16, a17, a18, a19, a20, a21, a22, a23, a24, a25, a26, a27, a28, a29, a30, a31) 0 := by
  have i0 : vp_in (0 : Int32) 10 := pk_in 0 10 (by omega)
  have i4 : vp_in (4 : Int32) 74 := pk_in 4 74 (by omega)
  have e6 : a6 ((7 : Int32) * 0 + 0).toNatClampNeg = nI 1 := by rw [show ((7 : Int32) * 0 + 0).toNatClampNeg = 0 by decide]; exact h6
  unfold wpX_layRule
  refine ⟨2, i0, br_f (by rw [tc_cl0, h5]; decide) ⟨pk_in 0 70 (by omega) (by decide), nm_r e6 (nm_e (br_f (by decide) ⟨by decide, i4, nm_e (br_t (by decide) ⟨i4, nm_e (br_t (by decide) ⟨i4, nm_e (nm_r (e' := nI 5) (by decide) (nm_r (e' := 0) (by decide) ⟨pk_in 0 7 (by omega), nm_e (nm_e (nm_e ⟨i0, br_t (by rw [tc_cl0, h5]; decide) ⟨i0, nm_e (H _ _ _ _ _ ?_ ?_)⟩⟩))⟩))⟩)⟩)⟩))⟩⟩
  · rw [tc_c4, pk_us]
  · rw [tc_cl0, pk_us, pk_us]
    rfl
theorem tc_lr2_2 {post : St2 → Prop} {g : Nat} (hg : g < 4) (h5 : a5 0 = nI 2) (h6 : a6 0 = (-1) - nI g) (h61 : a6 1 = nI 2)
    (H : ∀ b12 b13 b14 b15 b16 : Nat → Int32, b12 4 = nI 2 → b13 4 = nI g → b15 0 = nI 4 → post (dr, ph, ru, no, th, la, (nI 5), sc, wh, tm, tl, co, wo, fs, wf, ws, a1, a2, a3, a4, a5, a6, a7, a8, a9, a10, a11, b12, b13, b14, b15, b16, a17, a18, a19, a20, a21, a22, a23, a24, a25, a26, a27, a28, a29, a30, a31)) : wpX_layRule post (dr, ph, ru, no, th, la, 4, sc, wh, tm, tl, co, wo, fs, wf, ws, a1, a2, a3, a4, a5, a6, a7, a8, a9, a10, a11, a12, a13, a14, a15, a16, a17, a18, a19, a20, a21, a22, a23, a24, a25, a26, a27, a28, a29, a30, a31) 0 := by
  have i0 : vp_in (0 : Int32) 10 := pk_in 0 10 (by omega)
  have i4 : vp_in (4 : Int32) 74 := pk_in 4 74 (by omega)
  have e6 : a6 ((7 : Int32) * 0 + 0).toNatClampNeg = (-1) - nI g := by rw [show ((7 : Int32) * 0 + 0).toNatClampNeg = 0 by decide]; exact h6
  have e61 : a6 ((7 : Int32) * 0 + 1).toNatClampNeg = nI 2 := by rw [show ((7 : Int32) * 0 + 1).toNatClampNeg = 1 by decide]; exact h61
  unfold wpX_layRule
  refine ⟨3, i0, br_f (by rw [tc_cl0, h5]; decide) ⟨pk_in 0 70 (by omega) (by decide), nm_r e6 (nm_r (tc_neg hg).1 (br_t (tc_neg hg).2 ⟨pk_in 0 7 (by omega), nm_e (nm_r (e' := 1) (by decide) (nm_r (e' := 1) (by decide) ?_))⟩))⟩⟩
  refine ⟨i0, br_f (by rw [tc_cl0, h5]; decide) ⟨pk_in 1 70 (by omega) (by decide), nm_r e61 (nm_e (br_f (by decide) ⟨by decide, i4, nm_e (br_f (by decide) ⟨pk_in 0 7 (by omega) (by decide), i4, nm_e (br_t (by decide) ⟨i4, nm_e (nm_r (e' := nI 5) (by decide) (nm_r (e' := 0) (by decide) ⟨pk_in 0 7 (by omega), nm_e (nm_e (nm_e ⟨i0, br_t (by rw [tc_cl0, h5]; decide) ⟨i0, nm_e (H _ _ _ _ _ ?_ ?_ ?_)⟩⟩))⟩))⟩)⟩)⟩))⟩⟩
  · rw [tc_c4, pk_us]
  · rw [tc_c4, pk_us, show ((1 : Int32) - nI 2 / 2).toNatClampNeg = 0 by decide, tc_cl0, pk_us]
  · rw [tc_cl0, pk_us, pk_us]
    rfl
theorem tc_lr2_3 {post : St2 → Prop} {g : Nat} (hg : g < 4) (h5 : a5 0 = nI 2) (h6 : a6 0 = (-1) - nI g) (h61 : a6 1 = nI 3)
    (H : ∀ b12 b13 b14 b15 b16 : Nat → Int32, b12 4 = nI 3 → b13 4 = nI g → b15 0 = nI 4 → post (dr, ph, ru, no, th, la, (nI 5), sc, wh, tm, tl, co, wo, fs, wf, ws, a1, a2, a3, a4, a5, a6, a7, a8, a9, a10, a11, b12, b13, b14, b15, b16, a17, a18, a19, a20, a21, a22, a23, a24, a25, a26, a27, a28, a29, a30, a31)) : wpX_layRule post (dr, ph, ru, no, th, la, 4, sc, wh, tm, tl, co, wo, fs, wf, ws, a1, a2, a3, a4, a5, a6, a7, a8, a9, a10, a11, a12, a13, a14, a15, a16, a17, a18, a19, a20, a21, a22, a23, a24, a25, a26, a27, a28, a29, a30, a31) 0 := by
  have i0 : vp_in (0 : Int32) 10 := pk_in 0 10 (by omega)
  have i4 : vp_in (4 : Int32) 74 := pk_in 4 74 (by omega)
  have e6 : a6 ((7 : Int32) * 0 + 0).toNatClampNeg = (-1) - nI g := by rw [show ((7 : Int32) * 0 + 0).toNatClampNeg = 0 by decide]; exact h6
  have e61 : a6 ((7 : Int32) * 0 + 1).toNatClampNeg = nI 3 := by rw [show ((7 : Int32) * 0 + 1).toNatClampNeg = 1 by decide]; exact h61
  unfold wpX_layRule
  refine ⟨3, i0, br_f (by rw [tc_cl0, h5]; decide) ⟨pk_in 0 70 (by omega) (by decide), nm_r e6 (nm_r (tc_neg hg).1 (br_t (tc_neg hg).2 ⟨pk_in 0 7 (by omega), nm_e (nm_r (e' := 1) (by decide) (nm_r (e' := 1) (by decide) ?_))⟩))⟩⟩
  refine ⟨i0, br_f (by rw [tc_cl0, h5]; decide) ⟨pk_in 1 70 (by omega) (by decide), nm_r e61 (nm_e (br_f (by decide) ⟨by decide, i4, nm_e (br_f (by decide) ⟨pk_in 0 7 (by omega) (by decide), i4, nm_e (br_t (by decide) ⟨i4, nm_e (nm_r (e' := nI 5) (by decide) (nm_r (e' := 0) (by decide) ⟨pk_in 0 7 (by omega), nm_e (nm_e (nm_e ⟨i0, br_t (by rw [tc_cl0, h5]; decide) ⟨i0, nm_e (H _ _ _ _ _ ?_ ?_ ?_)⟩⟩))⟩))⟩)⟩)⟩))⟩⟩
  · rw [tc_c4, pk_us]
  · rw [tc_c4, pk_us, show ((1 : Int32) - nI 3 / 2).toNatClampNeg = 0 by decide, tc_cl0, pk_us]
  · rw [tc_cl0, pk_us, pk_us]
    rfl
theorem tc_lo92 {post : St2 → Prop} (H : ∀ b22 : Nat → Int32, post (dr, ph, ru, no, th, 1, en, sc, wh, tm, tl, co, wo, fs, wf, ws, a1, a2, a3, a4, a5, a6, a7, a8, a9, a10, a11, a12, a13, a14, a15, a16, a17, a18, a19, a20, a21, b22, a23, a24, a25, a26, a27, a28, a29, a30, a31)) : ∃ n, wX_layOut_92 post dr ph ru no th la en sc wh tm tl co wo fs wf ws n 0 a1 a2 a3 a4 a5 a6 a7 a8 a9 a10 a11 a12 a13 a14 a15 a16 a17 a18 a19 a20 a21 a22 a23 a24 a25 a26 a27 a28 a29 a30 a31 :=
  pk_loop (fun n i s => wX_layOut_92 post dr ph ru no th la en sc wh tm tl co wo fs wf ws n (nI i) a1 a2 a3 a4 a5 a6 a7 a8 a9 a10 a11 a12 a13 a14 a15 a16 a17 a18 a19 a20 a21 s a23 a24 a25 a26 a27 a28 a29 a30 a31) (fun _ _ => True) 968 0 a22 (by omega) trivial
    (fun n s _ => pk_le 968 968 (fun _ => H s) (fun z => absurd z (by omega)))
    (fun n i s hi _ hw => pk_le 968 i (fun z => absurd z (by omega)) (fun _ => ⟨pk_in i 968 hi, nm_e (nm_r (nI_1 i) (hw _ trivial))⟩))
theorem tc_lo71 {post : St2 → Prop} (H : ∀ b20 b22 : Nat → Int32, post (dr, ph, ru, no, th, 1, en, sc, wh, tm, tl, co, wo, fs, wf, ws, a1, a2, a3, a4, a5, a6, a7, a8, a9, a10, a11, a12, a13, a14, a15, a16, a17, a18, a19, b20, a21, b22, a23, a24, a25, a26, a27, a28, a29, a30, a31)) : ∃ n, wX_layOut_71 post dr ph ru no th la en sc wh tm tl co wo fs wf ws n 0 a1 a2 a3 a4 a5 a6 a7 a8 a9 a10 a11 a12 a13 a14 a15 a16 a17 a18 a19 a20 a21 a22 a23 a24 a25 a26 a27 a28 a29 a30 a31 :=
  pk_loop (fun n i s => wX_layOut_71 post dr ph ru no th la en sc wh tm tl co wo fs wf ws n (nI i) a1 a2 a3 a4 a5 a6 a7 a8 a9 a10 a11 a12 a13 a14 a15 a16 a17 a18 a19 s a21 a22 a23 a24 a25 a26 a27 a28 a29 a30 a31) (fun _ _ => True) 44 0 a20 (by omega) trivial
    (fun n s _ => pk_le 44 44 (fun _ => tc_lo92 (H s)) (fun z => absurd z (by omega)))
    (fun n i s hi _ hw => pk_le 44 i (fun z => absurd z (by omega)) (fun _ => ⟨pk_in i 44 hi, nm_e (nm_r (nI_1 i) (hw _ trivial))⟩))
theorem tc_lo51 {post : St2 → Prop} (H : ∀ b18 b20 b22 : Nat → Int32, (∀ q, q < 2 → b18 q = -1) → post (dr, ph, ru, no, th, 1, en, sc, wh, tm, tl, co, wo, fs, wf, ws, a1, a2, a3, a4, a5, a6, a7, a8, a9, a10, a11, a12, a13, a14, a15, a16, a17, b18, a19, b20, a21, b22, a23, a24, a25, a26, a27, a28, a29, a30, a31)) : ∃ n, wX_layOut_51 post dr ph ru no th la en sc wh tm tl co wo fs wf ws n 0 a1 a2 a3 a4 a5 a6 a7 a8 a9 a10 a11 a12 a13 a14 a15 a16 a17 a18 a19 a20 a21 a22 a23 a24 a25 a26 a27 a28 a29 a30 a31 :=
  pk_loop (fun n i s => wX_layOut_51 post dr ph ru no th la en sc wh tm tl co wo fs wf ws n (nI i) a1 a2 a3 a4 a5 a6 a7 a8 a9 a10 a11 a12 a13 a14 a15 a16 a17 s a19 a20 a21 a22 a23 a24 a25 a26 a27 a28 a29 a30 a31) (fun i s => ∀ q, q < i → s q = -1) 2 0 a18 (by omega) (fun q hq => absurd hq (by omega))
    (fun n s h => pk_le 2 2 (fun _ => tc_lo71 (fun b20 b22 => H s b20 b22 h)) (fun z => absurd z (by omega)))
    (fun n i s hi h hw => pk_le 2 i (fun z => absurd z (by omega)) (fun _ => ⟨pk_in i 2 hi, nm_e (nm_r (nI_1 i) (hw _ (tc_fill (f := fun _ => -1) (nI_clamp (by omega)) h rfl)))⟩))
theorem tc_inv0 {k l c o g nE : Nat} {ru en : Int32} {a3 a4 a12 a13 a15 a17 : Nat → Int32} (h : tc_cfg k l c o g nE ru en a3 a4 a12 a13 a15) : tc_inv k l c o g nE [] ru en 0 a3 a4 a12 a13 a15 a17 :=
  ⟨h, rfl, List.nodup_nil, fun x hx => absurd hx List.not_mem_nil, fun s b hs => absurd hs (by simp)⟩
theorem tc_layOut {post : St2 → Prop} {k l c o g : Nat} (hp : tc_pre k l c o g ru a3 a4 a5 a6)
    (H : ∀ (nE : Nat) (b12 b13 b14 b15 b16 b18 b20 b22 : Nat → Int32), tc_inv k l c o g nE [] ru (nI nE) 0 a3 a4 b12 b13 b15 a17 → (∀ q, q < 2 → b18 q = -1) →
      post (dr, ph, ru, no, th, 1, (nI nE), 0, 0, 0, tl, co, wo, fs, wf, ws, a1, a2, a3, a4, a5, a6, a7, a8, a9, a10, a11, b12, b13, b14, b15, b16, a17, b18, a19, b20, a21, b22, a23, a24, a25, a26, a27, a28, a29, a30, a31)) : wpX_layOut post (dr, ph, ru, no, th, 0, en, sc, wh, tm, tl, co, wo, fs, wf, ws, a1, a2, a3, a4, a5, a6, a7, a8, a9, a10, a11, a12, a13, a14, a15, a16, a17, a18, a19, a20, a21, a22, a23, a24, a25, a26, a27, a28, a29, a30, a31) := by
  unfold wpX_layOut
  refine br_t rfl ?_
  rcases hp with ⟨hk, hr⟩ | ⟨hr, hl, hcc, h3, h4, hk⟩
  · exact ⟨1, pk_le 0 0 (fun _ => tc_lo51 (fun b18 b20 b22 h18 => H 4 a12 a13 a14 a15 a16 b18 b20 b22 (tc_inv0 (Or.inl ⟨hk, rfl, hr, rfl⟩)) h18)) (fun z => absurd z (by omega)) hr⟩
  · rcases hk with ⟨hk, hg, h5, h6⟩ | ⟨hk, hg, ho2, ho4, h5, h6, h61⟩ | ⟨hk, ho, h5, h6⟩
    · exact ⟨2, pk_le 1 0 (fun z => absurd z (by omega)) (fun _ => tc_lr1 hg h5 h6 (fun b15 b16 h15 => nm_e (pk_le 1 1 (fun _ => tc_lo51 (fun b18 b20 b22 h18 => H 4 a12 a13 a14 b15 b16 b18 b20 b22 (tc_inv0 (Or.inr ⟨hr, rfl, hl, hcc, h3, h4, Or.inl ⟨hk, rfl, hg, h15⟩⟩)) h18)) (fun z => absurd z (by omega)) hr (by decide)))) hr⟩
    · have t : ∀ b12 b13 b14 b15 b16 b18 b20 b22 : Nat → Int32, b12 4 = nI o → b13 4 = nI g → b15 0 = nI 4 → (∀ q, q < 2 → b18 q = -1) → post (dr, ph, ru, no, th, 1, (nI 5), 0, 0, 0, tl, co, wo, fs, wf, ws, a1, a2, a3, a4, a5, a6, a7, a8, a9, a10, a11, b12, b13, b14, b15, b16, a17, b18, a19, b20, a21, b22, a23, a24, a25, a26, a27, a28, a29, a30, a31) :=
        fun b12 b13 b14 b15 b16 b18 b20 b22 h12 h13 h15 h18 => H 5 b12 b13 b14 b15 b16 b18 b20 b22 (tc_inv0 (Or.inr ⟨hr, rfl, hl, hcc, h3, h4, Or.inr (Or.inl ⟨hk, rfl, hg, ho2, ho4, h15, h12, h13⟩)⟩)) h18
      have ho : o = 2 ∨ o = 3 := by omega
      rcases ho with ho | ho
      · subst ho
        exact ⟨2, pk_le 1 0 (fun z => absurd z (by omega)) (fun _ => tc_lr2_2 hg h5 h6 h61 (fun b12 b13 b14 b15 b16 h12 h13 h15 => nm_e (pk_le 1 1 (fun _ => tc_lo51 (fun b18 b20 b22 h18 => t b12 b13 b14 b15 b16 b18 b20 b22 h12 h13 h15 h18)) (fun z => absurd z (by omega)) hr (by decide)))) hr⟩
      · subst ho
        exact ⟨2, pk_le 1 0 (fun z => absurd z (by omega)) (fun _ => tc_lr2_3 hg h5 h6 h61 (fun b12 b13 b14 b15 b16 h12 h13 h15 => nm_e (pk_le 1 1 (fun _ => tc_lo51 (fun b18 b20 b22 h18 => t b12 b13 b14 b15 b16 b18 b20 b22 h12 h13 h15 h18)) (fun z => absurd z (by omega)) hr (by decide)))) hr⟩
    · have t : ∀ b12 b13 b14 b15 b16 b18 b20 b22 : Nat → Int32, b12 4 = nI o → b15 0 = nI 4 → (∀ q, q < 2 → b18 q = -1) → post (dr, ph, ru, no, th, 1, (nI 5), 0, 0, 0, tl, co, wo, fs, wf, ws, a1, a2, a3, a4, a5, a6, a7, a8, a9, a10, a11, b12, b13, b14, b15, b16, a17, b18, a19, b20, a21, b22, a23, a24, a25, a26, a27, a28, a29, a30, a31) :=
        fun b12 b13 b14 b15 b16 b18 b20 b22 h12 h15 h18 => H 5 b12 b13 b14 b15 b16 b18 b20 b22 (tc_inv0 (Or.inr ⟨hr, rfl, hl, hcc, h3, h4, Or.inr (Or.inr ⟨hk, rfl, ho, h15, h12⟩)⟩)) h18
      have ho : o = 0 ∨ o = 1 := by omega
      rcases ho with ho | ho
      · subst ho
        exact ⟨2, pk_le 1 0 (fun z => absurd z (by omega)) (fun _ => tc_lr3_0 h5 h6 (fun b12 b13 b14 b15 b16 h12 h15 => nm_e (pk_le 1 1 (fun _ => tc_lo51 (fun b18 b20 b22 h18 => t b12 b13 b14 b15 b16 b18 b20 b22 h12 h15 h18)) (fun z => absurd z (by omega)) hr (by decide)))) hr⟩
      · subst ho
        exact ⟨2, pk_le 1 0 (fun z => absurd z (by omega)) (fun _ => tc_lr3_1 h5 h6 (fun b12 b13 b14 b15 b16 h12 h15 => nm_e (pk_le 1 1 (fun _ => tc_lo51 (fun b18 b20 b22 h18 => t b12 b13 b14 b15 b16 b18 b20 b22 h12 h15 h18)) (fun z => absurd z (by omega)) hr (by decide)))) hr⟩
end
end
section
section
variable {dr ph ru no th la en sc wh tm tl co wo fs wf ws : Int32} {a1 a2 a3 a4 a5 a6 a7 a8 a9 a10 a11 a12 a13 a14 a15 a16 a17 a18 a19 a20 a21 a22 a23 a24 a25 a26 a27 a28 a29 a30 a31 : Nat → Int32}
theorem tc_bg {post : Int32 → Prop} {m : Nat} (hm : m < 4) (H : post 0) : wpX_badGoal post (dr, ph, ru, no, th, la, en, sc, wh, tm, tl, co, wo, fs, wf, ws, a1, a2, a3, a4, a5, a6, a7, a8, a9, a10, a11, a12, a13, a14, a15, a16, a17, a18, a19, a20, a21, a22, a23, a24, a25, a26, a27, a28, a29, a30, a31) (nI m) :=
  br_f (nI_pos (by omega)) (br_t (nI_lt (b := 4) hm (by omega)) H)
theorem tc_bgN {post : Int32 → Prop} {x : Int32} (h : x < 0 ∨ 3 < x) (H : post 1) : wpX_badGoal post (dr, ph, ru, no, th, la, en, sc, wh, tm, tl, co, wo, fs, wf, ws, a1, a2, a3, a4, a5, a6, a7, a8, a9, a10, a11, a12, a13, a14, a15, a16, a17, a18, a19, a20, a21, a22, a23, a24, a25, a26, a27, a28, a29, a30, a31) x := by
  refine br_c (fun _ => H) (fun hx => br_f ?_ H)
  intro z
  rcases h with h | h
  · exact hx h
  · rw [Int32.lt_iff_toInt_lt] at h z
    have e3 : (3 : Int32).toInt = 3 := by decide
    have e4 : (4 : Int32).toInt = 4 := by decide
    omega
theorem tc_add0 (x : Int32) : x + 0 = x := Int32.add_zero x
theorem tc_ix0 (i : Nat) : (74 * 0 + nI i : Int32) = nI i := by
  have t := tc_ix 0 i
  rw [Nat.mul_zero, Nat.zero_add] at t
  exact t
theorem tc_lc {post : St2 → Prop} {l c nE s : Nat} {b : Bool} (hen : en = nI nE) (hE : nE ≤ 5) (h30 : a30 0 = nI s) (hs : s ≤ 2) (h31 : a31 0 = 0) (hb : b = true → c ≤ 9) (h17 : ∀ e, e < nE → a17 (74 * s + e) = tc_vec l c b e)
    (H : ∀ b25 : Nat → Int32, (∀ e, e < nE → b25 e = tc_vec l c b e) → post (dr, ph, ru, no, th, la, en, sc, wh, tm, tl, co, wo, fs, wf, ws, a1, a2, a3, a4, a5, a6, a7, a8, a9, a10, a11, a12, a13, a14, a15, a16, a17, a18, a19, a20, a21, a22, a23, a24, b25, a26, a27, a28, a29, a30, a31)) : wpX_labelCosts post (dr, ph, ru, no, th, la, en, sc, wh, tm, tl, co, wo, fs, wf, ws, a1, a2, a3, a4, a5, a6, a7, a8, a9, a10, a11, a12, a13, a14, a15, a16, a17, a18, a19, a20, a21, a22, a23, a24, a25, a26, a27, a28, a29, a30, a31) 0 := by
  have i0 : vp_in (0 : Int32) 24 := pk_in 0 24 (by omega)
  unfold wpX_labelCosts
  refine ⟨i0, br_f ?_ ?_⟩
  · rw [tc_cl0, h30]
    exact nI_ge (b := 20) (by omega) (by omega)
  · refine pk_loop (fun n i q => wX_labelCosts_13 post 0 dr ph ru no th la en sc wh tm tl co wo fs wf ws n (nI i) a1 a2 a3 a4 a5 a6 a7 a8 a9 a10 a11 a12 a13 a14 a15 a16 a17 a18 a19 a20 a21 a22 a23 a24 q a26 a27 a28 a29 a30 a31) (fun i q => ∀ e, e < i → q e = tc_vec l c b e) nE 0 a25 (by omega) (fun e he => absurd he (by omega)) ?_ ?_
    · intro n q hq
      exact pk_le nE nE (fun _ => H q hq) (fun z => absurd z (by omega)) hen
    · intro n i q hi hq hw
      obtain ⟨m, hm, em⟩ := tc_vecNF (l := l) b hb i
      have hx : 74 * a30 (0 : Int32).toNatClampNeg + nI i = nI (74 * s + i) := by rw [tc_cl0, h30, tc_ix]
      have e17 : a17 (74 * a30 (0 : Int32).toNatClampNeg + nI i).toNatClampNeg = nI m := by rw [hx, nI_clamp (by omega), h17 i hi, em]
      refine pk_le nE i (fun z => absurd z (by omega)) (fun _ => ⟨i0, pk_in (74 * s + i) 1628 (by omega) hx, nm_r e17 (pk_lt m 1000000 (fun z => ⟨i0, pk_in i 1776 (by omega) (tc_ix0 i), nm_e (nm_r (nI_1 i) (hw _ (tc_fill ?_ hq ?_)))⟩) (fun z => ⟨pk_in i 1776 (by omega) (tc_ix0 i), nm_e (nm_r (nI_1 i) (hw _ (tc_fill ?_ hq ?_)))⟩))⟩) hen
      · rw [tc_ix0, nI_clamp (by omega)]
      · rw [tc_cl0, h31, tc_add0, em]
      · rw [tc_ix0, nI_clamp (by omega)]
      · rw [em, show m = 1000000 by omega]
        rfl
theorem tc_lbt {post : St2 → Prop} {k l c o g nE p : Nat} (hi : tc_inv k l c o g nE [] ru en sc a3 a4 a12 a13 a15 a17) (hp : p < 2) (h7 : a7 0 = nI p) (h8 : a8 0 = -1) (h18 : a18 p = -1)
    (H : ∀ b17 b18 b19 b24 b30 b31 : Nat → Int32, tc_inv k l c o g nE [tc_hit k o p] ru en (nI 1) a3 a4 a12 a13 a15 b17 → (∀ q, q ≠ p → b18 q = a18 q) → b30 0 = nI 0 → b31 0 = 0 →
      post (dr, ph, ru, no, th, la, en, (nI 1), wh, tm, 0, co, wo, 1, 0, 0, a1, a2, a3, a4, a5, a6, a7, a8, a9, a10, a11, a12, a13, a14, a15, a16, b17, b18, b19, a20, a21, a22, a23, b24, a25, a26, a27, a28, a29, b30, b31)) : wpX_labelByTable post (dr, ph, ru, no, th, la, en, sc, wh, tm, tl, co, wo, fs, wf, ws, a1, a2, a3, a4, a5, a6, a7, a8, a9, a10, a11, a12, a13, a14, a15, a16, a17, a18, a19, a20, a21, a22, a23, a24, a25, a26, a27, a28, a29, a30, a31) 0 := by
  have i0 : vp_in (0 : Int32) 24 := pk_in 0 24 (by omega)
  have e7 : a7 (0 : Int32).toNatClampNeg = nI p := by rw [tc_cl0]; exact h7
  have e8 : a8 (0 : Int32).toNatClampNeg = -1 := by rw [tc_cl0]; exact h8
  have e := nI_clamp (n := p) (by omega)
  have eA : tc_add [] (tc_hit k o p) = [tc_hit k o p] := tc_add_out List.not_mem_nil
  unfold wpX_labelByTable
  refine ⟨i0, nm_r e7 ⟨i0, nm_r e8 ⟨i0, nm_e (br_t rfl (tc_leafN hi hp h18 (fun r s b17 b18 b19 b24 hr hg hin h1 h2 => ?_)))⟩⟩⟩
  rw [eA] at hg hin
  rw [eA]
  have hs : s = 0 := by
    rcases Nat.eq_zero_or_pos s with z | z
    · exact z
    · rw [List.getElem?_eq_none (by exact z)] at hg
      exact absurd hg (by simp)
  refine ⟨i0, nm_e ⟨pk_in p 2 hp, i0, nm_e (H b17 b18 b19 b24 _ _ hin (fun q hq => by rw [h1, pk_un hq]) ?_ ?_)⟩⟩
  · rw [tc_cl0, pk_us, hr, hs]
  · rw [tc_cl0, pk_us, e, h2, pk_us]
theorem tc_ltN {post : Int32 → St2 → Prop} {x : Int32} (hx : ¬ 0 ≤ x) (H : post 0 (dr, ph, ru, no, th, la, en, sc, wh, tm, tl, co, wo, fs, wf, ws, a1, a2, a3, a4, a5, a6, a7, a8, a9, a10, a11, a12, a13, a14, a15, a16, a17, a18, a19, a20, a21, a22, a23, a24, a25, a26, a27, a28, a29, a30, a31)) : wpX_labelTree post (dr, ph, ru, no, th, la, en, sc, wh, tm, tl, co, wo, fs, wf, ws, a1, a2, a3, a4, a5, a6, a7, a8, a9, a10, a11, a12, a13, a14, a15, a16, a17, a18, a19, a20, a21, a22, a23, a24, a25, a26, a27, a28, a29, a30, a31) x := br_f hx H
theorem tc_lt {post : Int32 → St2 → Prop} {k l c o g p : Nat} (hpre : tc_pre k l c o g ru a3 a4 a5 a6) (hp : p < 2) (h7 : a7 0 = nI p) (h8 : a8 0 = -1) (h10 : a10 0 = 0) (h11 : a11 0 = 0)
    (H : ∀ (nE : Nat) (b12 b13 b14 b15 b16 b17 b18 b19 b20 b22 b24 b25 b30 b31 : Nat → Int32), tc_inv k l c o g nE [tc_hit k o p] ru (nI nE) (nI 1) a3 a4 b12 b13 b15 b17 → (∀ q, q < 2 → q ≠ p → b18 q = -1) →
      (∀ e, e < nE → b25 e = tc_vec l c (tc_hit k o p) e) →
      post 1 (dr, ph, ru, no, th, 1, (nI nE), (nI 1), 0, 0, 0, co, wo, 1, 0, 0, a1, a2, a3, a4, a5, a6, a7, a8, a9, a10, a11, b12, b13, b14, b15, b16, b17, b18, b19, b20, a21, b22, a23, b24, b25, a26, a27, a28, a29, b30, b31)) :
    wpX_labelTree post (dr, ph, ru, no, th, 0, en, sc, wh, tm, tl, co, wo, fs, wf, ws, a1, a2, a3, a4, a5, a6, a7, a8, a9, a10, a11, a12, a13, a14, a15, a16, a17, a18, a19, a20, a21, a22, a23, a24, a25, a26, a27, a28, a29, a30, a31) 0 := by
  have i0 : vp_in (0 : Int32) 8 := pk_in 0 8 (by omega)
  have e11 : a11 (0 : Int32).toNatClampNeg = 0 := by rw [tc_cl0]; exact h11
  have e10 : a10 (0 : Int32).toNatClampNeg = 0 := by rw [tc_cl0]; exact h10
  unfold wpX_labelTree
  refine br_t (by decide) (tc_layOut hpre (fun nE b12 b13 b14 b15 b16 b18 b20 b22 hin h18 => ⟨i0, nm_r e11 ⟨2, i0, br_f (by rw [e10]; decide) ?_⟩⟩))
  refine tc_lbt hin hp h7 h8 (h18 p hp) (fun b17 c18 b19 b24 b30 b31 hin2 hc18 h30 h31 => ?_)
  obtain ⟨_, hE4, hE5⟩ := tc_cfg_en hin2.1
  refine tc_lc (s := 0) (l := l) (c := c) (b := tc_hit k o p) rfl hE5 h30 (by omega) h31 (fun z => (tc_inv_b hin2 (fun z => (tc_hitT z).1) z).2) (hin2.2.2.2.2 0 _ rfl) (fun b25 h25 => nm_e ⟨i0, br_t (by rw [e10]; decide) ?_⟩)
  exact H nE b12 b13 b14 b15 b16 b17 c18 b19 b20 b22 b24 b25 b30 b31 hin2 (fun q hq hqp => by rw [hc18 q hqp, h18 q hq]) h25
theorem tc_costB {post : Int32 → St2 → Prop} {x : Int32} (h : x < 0 ∨ 3 < x) (H : post (-1) (dr, ph, ru, no, th, la, en, sc, wh, tm, tl, co, wo, fs, wf, ws, a1, a2, a3, a4, a5, a6, a7, a8, a9, a10, a11, a12, a13, a14, a15, a16, a17, a18, a19, a20, a21, a22, a23, a24, a25, a26, a27, a28, a29, a30, a31)) : wpX_cost post (dr, ph, ru, no, th, la, en, sc, wh, tm, tl, co, wo, fs, wf, ws, a1, a2, a3, a4, a5, a6, a7, a8, a9, a10, a11, a12, a13, a14, a15, a16, a17, a18, a19, a20, a21, a22, a23, a24, a25, a26, a27, a28, a29, a30, a31) x := by
  unfold wpX_cost
  exact tc_bgN h (br_f (by decide) H)
theorem tc_cost0 {post : Int32 → St2 → Prop} {m : Nat} (hm : m < 4) (H : post (-4) (dr, ph, ru, no, 0, la, en, sc, wh, tm, tl, co, wo, fs, wf, ws, a1, a2, a3, a4, a5, a6, a7, a8, a9, a10, a11, a12, a13, a14, a15, a16, a17, a18, a19, a20, a21, a22, a23, a24, a25, a26, a27, a28, a29, a30, a31)) : wpX_cost post (dr, ph, ru, no, 0, la, en, sc, wh, tm, tl, co, wo, fs, wf, ws, a1, a2, a3, a4, a5, a6, a7, a8, a9, a10, a11, a12, a13, a14, a15, a16, a17, a18, a19, a20, a21, a22, a23, a24, a25, a26, a27, a28, a29, a30, a31) (nI m) := by
  unfold wpX_cost
  exact tc_bg hm (br_t rfl (tc_ltN (by decide) (br_t rfl H)))
theorem tc_cost1 {post : Int32 → St2 → Prop} {k l c o g p m : Nat} (hm : m < 4) (hml : k = 3 → m = l) (hpre : tc_pre k l c o g ru a3 a4 a5 a6) (hp : p < 2) (h7 : a7 0 = nI p) (h8 : a8 0 = -1) (h10 : a10 0 = 0) (h11 : a11 0 = 0)
    (H : ∀ (nE : Nat) (b12 b13 b14 b15 b16 b17 b18 b19 b20 b22 b24 b25 b30 b31 : Nat → Int32), tc_inv k l c o g nE [tc_hit k o p] ru (nI nE) (nI 1) a3 a4 b12 b13 b15 b17 → (∀ q, q < 2 → q ≠ p → b18 q = -1) →
      ∀ r : Int32, r = (if tc_hit k o p = true then nI c else -4) →
      post r (dr, ph, ru, no, (nI 1), 1, (nI nE), (nI 1), 0, 0, 0, co, wo, 1, 0, 0, a1, a2, a3, a4, a5, a6, a7, a8, a9, a10, a11, b12, b13, b14, b15, b16, b17, b18, b19, b20, a21, b22, a23, b24, b25, a26, a27, a28, a29, b30, b31)) :
    wpX_cost post (dr, ph, ru, no, (nI 1), 0, en, sc, wh, tm, tl, co, wo, fs, wf, ws, a1, a2, a3, a4, a5, a6, a7, a8, a9, a10, a11, a12, a13, a14, a15, a16, a17, a18, a19, a20, a21, a22, a23, a24, a25, a26, a27, a28, a29, a30, a31) (nI m) := by
  have e0 : (nI 1 - 1 : Int32) = 0 := by decide
  have ea : a10 (nI 1 - 1 : Int32).toNatClampNeg = 0 := by rw [e0, tc_cl0]; exact h10
  have hx : 74 * a10 (nI 1 - 1 : Int32).toNatClampNeg + nI m = nI m := by rw [ea, tc_ix0]
  unfold wpX_cost
  refine tc_bg hm (br_t rfl ?_)
  rw [e0]
  refine tc_lt (th := nI 1) hpre hp h7 h8 h10 h11 (fun nE b12 b13 b14 b15 b16 b17 b18 b19 b20 b22 b24 b25 b30 b31 hin h18 h25 => ?_)
  have hE := (tc_cfg_en hin.1).2
  have t := H nE b12 b13 b14 b15 b16 b17 b18 b19 b20 b22 b24 b25 b30 b31 hin h18
  refine br_f (by decide) ⟨pk_in 0 8 (by omega) e0, ?_⟩
  refine ⟨pk_in m 1776 (by omega) hx, ?_⟩
  rw [hx, nI_clamp (by omega), h25 m (by omega)]
  by_cases hh : tc_hit k o p = true
  · rw [hh] at t ⊢
    obtain ⟨hk, _⟩ := tc_hitT hh
    rw [hml hk]
    subst hk
    have h3 := tc_cfg_3 hin.1
    rw [tc_vecl h3.2.2.1]
    exact br_t (nI_lt (b := 1000000) (by omega) (by omega)) (t _ (by rw [if_pos rfl]))
  · have hf : tc_hit k o p = false := by
      cases hq : tc_hit k o p with
      | true => exact absurd hq hh
      | false => rfl
    rw [hf] at t ⊢
    rw [tc_vecF]
    exact br_f (by decide) (t _ (by rw [if_neg (by decide)]))
end
end
section
section
variable {dr ph ru no th la en sc wh tm tl co wo fs wf ws : Int32} {a1 a2 a3 a4 a5 a6 a7 a8 a9 a10 a11 a12 a13 a14 a15 a16 a17 a18 a19 a20 a21 a22 a23 a24 a25 a26 a27 a28 a29 a30 a31 : Nat → Int32}
theorem tc_fs57 {post : St2 → Prop} {J26 : Int32 → Int32 → Int32 → Int32 → Int32 → Int32 → Int32 → Int32 → Int32 → Int32 → Int32 → Int32 → Int32 → Int32 → Int32 → Int32 → Int32 → (Nat → Int32) → (Nat → Int32) → (Nat → Int32) → (Nat → Int32) → (Nat → Int32) → (Nat → Int32) → (Nat → Int32) → (Nat → Int32) → (Nat → Int32) → (Nat → Int32) → (Nat → Int32) → (Nat → Int32) → (Nat → Int32) → (Nat → Int32) → (Nat → Int32) → (Nat → Int32) → (Nat → Int32) → (Nat → Int32) → (Nat → Int32) → (Nat → Int32) → (Nat → Int32) → (Nat → Int32) → (Nat → Int32) → (Nat → Int32) → (Nat → Int32) → (Nat → Int32) → (Nat → Int32) → (Nat → Int32) → (Nat → Int32) → (Nat → Int32) → (Nat → Int32) → Prop} {k l c o g nE s : Nat} {L : List Bool} (hi : tc_inv k l c o g nE L ru en sc a3 a4 a12 a13 a15 a17) (hs : s < L.length) (hf : false ∈ L)
    (H : ∀ (xl xs xf xg : Int32) (b17 b22 b23 b24 : Nat → Int32), tc_inv k l c o g nE L ru en sc a3 a4 a12 a13 a15 b17 → J26 (nI s + 1) dr ph ru no th la en sc wh 0 xl co wo xs xf xg a1 a2 a3 a4 a5 a6 a7 a8 a9 a10 a11 a12 a13 a14 a15 a16 b17 a18 a19 a20 a21 b22 b23 b24 a25 a26 a27 a28 a29 a30 a31) :
    ∃ n, wX_findStates_57 post J26 (nI s) n 0 dr ph ru no th la en sc wh 0 tl co wo fs wf ws a1 a2 a3 a4 a5 a6 a7 a8 a9 a10 a11 a12 a13 a14 a15 a16 a17 a18 a19 a20 a21 a22 a23 a24 a25 a26 a27 a28 a29 a30 a31 := by
  have hL2 := tc_nd2 hi.2.2.1
  exact pk_loop (σ := Int32 × Int32 × Int32 × Int32 × (Nat → Int32) × (Nat → Int32) × (Nat → Int32) × (Nat → Int32))
    (fun n i q => wX_findStates_57 post J26 (nI s) n (nI i) dr ph ru no th la en sc wh 0 q.1 co wo q.2.1 q.2.2.1 q.2.2.2.1 a1 a2 a3 a4 a5 a6 a7 a8 a9 a10 a11 a12 a13 a14 a15 a16 q.2.2.2.2.1 a18 a19 a20 a21 q.2.2.2.2.2.1 q.2.2.2.2.2.2.1 q.2.2.2.2.2.2.2 a25 a26 a27 a28 a29 a30 a31)
    (fun _ q => tc_inv k l c o g nE L ru en sc a3 a4 a12 a13 a15 q.2.2.2.2.1) (s + 1) 0 (tl, fs, wf, ws, a17, a22, a23, a24) (by omega) hi
    (fun n q hq => pk_lt s (s + 1) (fun _ => nm_e (H _ _ _ _ _ _ _ _ hq)) (fun z => absurd z (by omega)))
    (fun n i q hi' hq hw => pk_lt s i (fun z => absurd z (by omega)) (fun _ => br_t rfl
      (tc_two (p := 4) hq (by omega) (by omega) hs (by omega) hf (fun _ _ _ _ _ _ _ _ _ h1 =>
        tc_two (p := 4) h1 (by omega) (by omega) (by omega) hs hf (fun _ _ _ _ _ _ _ _ _ h2 =>
          tc_two (p := 5) h2 (by omega) (by omega) hs (by omega) hf (fun _ _ _ _ _ _ _ _ _ h3 =>
            tc_two (p := 5) h3 (by omega) (by omega) (by omega) hs hf (fun _ xl xs xf xg b17 b22 b23 b24 h4 =>
              nm_r (nI_1 i) (hw (xl, xs, xf, xg, b17, b22, b23, b24) h4))))))))
theorem tc_fs26 {post : St2 → Prop} {k l c o g nE : Nat} {L : List Bool} (hi : tc_inv k l c o g nE L ru en sc a3 a4 a12 a13 a15 a17) (hf : false ∈ L)
    (H : ∀ (xl xs xf xg : Int32) (b17 b20 b21 b22 b23 b24 : Nat → Int32), post (dr, ph, ru, no, th, la, en, sc, 1, 0, xl, co, wo, xs, xf, xg, a1, a2, a3, a4, a5, a6, a7, a8, a9, a10, a11, a12, a13, a14, a15, a16, b17, a18, a19, b20, b21, b22, b23, b24, a25, a26, a27, a28, a29, a30, a31)) :
    ∃ n, wX_findStates_26 post n 0 dr ph ru no th la en sc wh 0 tl co wo fs wf ws a1 a2 a3 a4 a5 a6 a7 a8 a9 a10 a11 a12 a13 a14 a15 a16 a17 a18 a19 a20 a21 a22 a23 a24 a25 a26 a27 a28 a29 a30 a31 := by
  have hL2 := tc_nd2 hi.2.2.1
  have hsc := hi.2.1
  exact pk_loop (σ := Int32 × Int32 × Int32 × Int32 × (Nat → Int32) × (Nat → Int32) × (Nat → Int32) × (Nat → Int32) × (Nat → Int32) × (Nat → Int32))
    (fun n i q => wX_findStates_26 post n (nI i) dr ph ru no th la en sc wh 0 q.1 co wo q.2.1 q.2.2.1 q.2.2.2.1 a1 a2 a3 a4 a5 a6 a7 a8 a9 a10 a11 a12 a13 a14 a15 a16 q.2.2.2.2.1 a18 a19 q.2.2.2.2.2.1 q.2.2.2.2.2.2.1 q.2.2.2.2.2.2.2.1 q.2.2.2.2.2.2.2.2.1 q.2.2.2.2.2.2.2.2.2 a25 a26 a27 a28 a29 a30 a31)
    (fun _ q => tc_inv k l c o g nE L ru en sc a3 a4 a12 a13 a15 q.2.2.2.2.1) L.length 0 (tl, fs, wf, ws, a17, a20, a21, a22, a23, a24) (by omega) hi
    (fun n q hq => pk_le L.length L.length (fun _ => H _ _ _ _ _ _ _ _ _ _) (fun z => absurd z (by omega)) hsc)
    (fun n i q hi' hq hw => pk_le L.length i (fun z => absurd z (by omega)) (fun _ => br_t rfl
      (tc_one (p := 2) hq (by omega) (by omega) hi' hf (fun _ _ _ _ _ _ _ _ _ h1 =>
        tc_one (p := 3) h1 (by omega) (by omega) hi' hf (fun _ _ _ _ _ _ b20 b21 _ h2 =>
          tc_fs57 h2 hi' hf (fun xl xs xf xg b17 b22 b23 b24 h3 =>
            ek_v (P := fun x => wX_findStates_26 post n x dr ph ru no th la en sc wh 0 xl co wo xs xf xg a1 a2 a3 a4 a5 a6 a7 a8 a9 a10 a11 a12 a13 a14 a15 a16 b17 a18 a19 b20 b21 b22 b23 b24 a25 a26 a27 a28 a29 a30 a31) (nI_1 i) (hw (xl, xs, xf, xg, b17, b20, b21, b22, b23, b24) h3)))))) hsc)
theorem tc_falseIn {k o : Nat} {L : List Bool} : false ∈ tc_add (tc_add L (tc_hit k o 0)) (tc_hit k o 1) := by
  by_cases h : tc_hit k o 0 = true
  · have t := tc_hitT h
    have f : tc_hit k o 1 = false := tc_hitF (by omega)
    rw [f]
    exact tc_add_mem
  · have f : tc_hit k o 0 = false := by
      cases hq : tc_hit k o 0 with
      | true => exact absurd hq h
      | false => rfl
    rw [f]
    exact tc_add_old tc_add_mem
theorem tc_find {post : St2 → Prop} {k l c o g nE : Nat} {L : List Bool} (hi : tc_inv k l c o g nE L ru en sc a3 a4 a12 a13 a15 a17) (h18 : ∀ q, q < 2 → a18 q = -1 ∨ tc_hit k o q ∈ L)
    (H : ∀ (xl xs xf xg : Int32) (b17 b18 b19 b20 b21 b22 b23 b24 : Nat → Int32), post (dr, ph, ru, no, th, 1, en, (nI (tc_add (tc_add L (tc_hit k o 0)) (tc_hit k o 1)).length), 1, 0, xl, co, wo, xs, xf, xg, a1, a2, a3, a4, a5, a6, a7, a8, a9, a10, a11, a12, a13, a14, a15, a16, b17, b18, b19, b20, b21, b22, b23, b24, a25, a26, a27, a28, a29, a30, a31)) :
    wpX_findStates post (dr, ph, ru, no, th, 1, en, sc, 0, 0, tl, co, wo, fs, wf, ws, a1, a2, a3, a4, a5, a6, a7, a8, a9, a10, a11, a12, a13, a14, a15, a16, a17, a18, a19, a20, a21, a22, a23, a24, a25, a26, a27, a28, a29, a30, a31) := by
  unfold wpX_findStates
  refine br_f (by decide) (br_t rfl ?_)
  refine tc_leaf2 (p := 0) hi (by omega) (h18 0 (by omega)) (fun r xl xs xf xg b17 b18 b19 b24 h1 hb18 => ?_)
  have g1 : b18 1 = -1 ∨ tc_hit k o 1 ∈ tc_add L (tc_hit k o 0) := by
    rcases h18 1 (by omega) with z | z
    · exact Or.inl (by rw [hb18 1 (by omega), z])
    · exact Or.inr (tc_add_old z)
  refine tc_leaf2 (p := 1) h1 (by omega) g1 (fun r' yl ys yf yg c17 c18 c19 c24 h2 _ => ?_)
  exact tc_fs26 h2 tc_falseIn (fun zl zs zf zg d17 d20 d21 d22 d23 d24 => H zl zs zf zg d17 c18 c19 d20 d21 d22 d23 d24)
theorem tc_findL {post : St2 → Prop} {k l c o g : Nat} (hpre : tc_pre k l c o g ru a3 a4 a5 a6)
    (H : ∀ (nE : Nat) (xl xs xf xg : Int32) (b12 b13 b14 b15 b16 b17 b18 b19 b20 b21 b22 b23 b24 : Nat → Int32), post (dr, ph, ru, no, th, 1, (nI nE), (nI (tc_add (tc_add [] (tc_hit k o 0)) (tc_hit k o 1)).length), 1, 0, xl, co, wo, xs, xf, xg, a1, a2, a3, a4, a5, a6, a7, a8, a9, a10, a11, b12, b13, b14, b15, b16, b17, b18, b19, b20, b21, b22, b23, b24, a25, a26, a27, a28, a29, a30, a31)) :
    wpX_findStates post (dr, ph, ru, no, th, 0, en, sc, wh, tm, tl, co, wo, fs, wf, ws, a1, a2, a3, a4, a5, a6, a7, a8, a9, a10, a11, a12, a13, a14, a15, a16, a17, a18, a19, a20, a21, a22, a23, a24, a25, a26, a27, a28, a29, a30, a31) := by
  unfold wpX_findStates
  refine tc_layOut hpre (fun nE b12 b13 b14 b15 b16 b18 b20 b22 hin h18 => ?_)
  have t := tc_find (post := post) (tl := tl) (fs := fs) (wf := wf) (ws := ws) (a19 := a19) (a20 := b20) (a21 := a21) (a22 := b22) (a23 := a23) (a24 := a24) hin (fun q hq => Or.inl (h18 q hq)) (fun xl xs xf xg b17 b18 b19 b20 b21 b22 b23 b24 => H nE xl xs xf xg b12 b13 b14 b15 b16 b17 b18 b19 b20 b21 b22 b23 b24)
  unfold wpX_findStates at t
  exact t.2 (by decide)
theorem tc_len0 {k o : Nat} (h : k = 3 → o < 2) : (tc_add (tc_add [] (tc_hit k o 0)) (tc_hit k o 1)).length = if k = 3 then 2 else 1 := by
  by_cases hk : k = 3
  · have ho := h hk
    rw [if_pos hk]
    by_cases o0 : o = 0
    · rw [tc_hitI (p := 0) ⟨hk, o0⟩, tc_hitF (p := 1) (by omega)]; rfl
    · rw [tc_hitF (p := 0) (by omega), tc_hitI (p := 1) (by omega)]; rfl
  · rw [if_neg hk, tc_hitF (p := 0) (by omega), tc_hitF (p := 1) (by omega)]; rfl
theorem tc_len1 {k o p : Nat} (h : k = 3 → o < 2) (hp : p < 2) : (tc_add (tc_add [tc_hit k o p] (tc_hit k o 0)) (tc_hit k o 1)).length = if k = 3 then 2 else 1 := by
  have p01 : p = 0 ∨ p = 1 := by omega
  by_cases hk : k = 3
  · have ho := h hk
    rw [if_pos hk]
    by_cases o0 : o = 0
    · rw [tc_hitI (p := 0) ⟨hk, o0⟩, tc_hitF (p := 1) (by omega)]
      rcases p01 with e | e <;> subst e
      · rw [tc_hitI (p := 0) ⟨hk, o0⟩]; rfl
      · rw [tc_hitF (p := 1) (by omega)]; rfl
    · rw [tc_hitF (p := 0) (by omega), tc_hitI (p := 1) (by omega)]
      rcases p01 with e | e <;> subst e
      · rw [tc_hitF (p := 0) (by omega)]; rfl
      · rw [tc_hitI (p := 1) (by omega)]; rfl
  · rw [if_neg hk, tc_hitF (p := 0) (by omega), tc_hitF (p := 1) (by omega), tc_hitF (p := p) (by omega)]; rfl
theorem tc_pre3 {k l c o g : Nat} {ru : Int32} {a3 a4 a5 a6 : Nat → Int32} (h : tc_pre k l c o g ru a3 a4 a5 a6) : k = 3 → o < 2 := by
  intro hk
  rcases h with ⟨z, _⟩ | ⟨_, _, _, _, _, ⟨z, _⟩ | ⟨z, _⟩ | ⟨_, ho, _⟩⟩
  · omega
  · omega
  · omega
  · exact ho
theorem tc_states0 {post : Int32 → St2 → Prop} {k l c o g : Nat} (hpre : tc_pre k l c o g ru a3 a4 a5 a6) (H : ∀ u : St2, post (if k = 3 then nI 2 else nI 1) u) : wpX_states post (dr, ph, ru, no, th, 0, en, sc, wh, tm, tl, co, wo, fs, wf, ws, a1, a2, a3, a4, a5, a6, a7, a8, a9, a10, a11, a12, a13, a14, a15, a16, a17, a18, a19, a20, a21, a22, a23, a24, a25, a26, a27, a28, a29, a30, a31) := by
  unfold wpX_states
  refine tc_findL hpre (fun nE xl xs xf xg b12 b13 b14 b15 b16 b17 b18 b19 b20 b21 b22 b23 b24 => br_t rfl ?_)
  rw [tc_len0 (tc_pre3 hpre)]
  by_cases hk : k = 3
  · rw [if_pos hk]
    have t := H
    rw [if_pos hk] at t
    exact t _
  · rw [if_neg hk]
    have t := H
    rw [if_neg hk] at t
    exact t _
theorem tc_states1 {post : Int32 → St2 → Prop} {k l c o g nE p : Nat} (hi : tc_inv k l c o g nE [tc_hit k o p] ru en sc a3 a4 a12 a13 a15 a17) (hp : p < 2) (h18 : ∀ q, q < 2 → q ≠ p → a18 q = -1) (H : ∀ u : St2, post (if k = 3 then nI 2 else nI 1) u) :
    wpX_states post (dr, ph, ru, no, th, 1, en, sc, 0, 0, tl, co, wo, fs, wf, ws, a1, a2, a3, a4, a5, a6, a7, a8, a9, a10, a11, a12, a13, a14, a15, a16, a17, a18, a19, a20, a21, a22, a23, a24, a25, a26, a27, a28, a29, a30, a31) := by
  have h3 : k = 3 → o < 2 := fun hk => by subst hk; exact (tc_cfg_3 hi.1).2.2.2.2.2.2.1
  unfold wpX_states
  refine tc_find hi (fun q hq => ?_) (fun xl xs xf xg b17 b18 b19 b20 b21 b22 b23 b24 => br_t rfl ?_)
  · by_cases e : q = p
    · rw [e]; exact Or.inr (List.mem_singleton.mpr rfl)
    · exact Or.inl (h18 q hq e)
  · rw [tc_len1 h3 hp]
    by_cases hk : k = 3
    · rw [if_pos hk]
      have t := H
      rw [if_pos hk] at t
      exact t _
    · rw [if_neg hk]
      have t := H
      rw [if_neg hk] at t
      exact t _
end
end
section
section
variable {dr ph ru no th la en sc wh tm tl co wo fs wf ws : Int32} {a1 a2 a3 a4 a5 a6 a7 a8 a9 a10 a11 a12 a13 a14 a15 a16 a17 a18 a19 a20 a21 a22 a23 a24 a25 a26 a27 a28 a29 a30 a31 : Nat → Int32}
theorem tc_nle {x : Int32} {M : Int32} (h : M < x) : ¬ x ≤ M := by
  rw [Int32.lt_iff_toInt_lt] at h
  rw [Int32.le_iff_toInt_le]
  omega
theorem tc_ngt {x : Int32} {M : Int32} (h : ¬ M < x) : x ≤ M := by
  rw [Int32.lt_iff_toInt_lt] at h
  rw [Int32.le_iff_toInt_le]
  omega
theorem tc_boN {post : Int32 → Prop} {x : Int32} (h : x < 0 ∨ 5 < x) (H : post 1) : wpX_badOperator post (dr, ph, ru, no, th, la, en, sc, wh, tm, tl, co, wo, fs, wf, ws, a1, a2, a3, a4, a5, a6, a7, a8, a9, a10, a11, a12, a13, a14, a15, a16, a17, a18, a19, a20, a21, a22, a23, a24, a25, a26, a27, a28, a29, a30, a31) x := by
  refine br_c (fun _ => H) (fun hx => br_f ?_ H)
  intro z
  rcases h with h | h
  · exact hx h
  · rw [Int32.lt_iff_toInt_lt] at h z
    have e3 : (5 : Int32).toInt = 5 := by decide
    have e4 : (6 : Int32).toInt = 6 := by decide
    omega
theorem tc_bo {post : Int32 → Prop} {m : Nat} (hm : m < 6) (H : post 0) : wpX_badOperator post (dr, ph, ru, no, th, la, en, sc, wh, tm, tl, co, wo, fs, wf, ws, a1, a2, a3, a4, a5, a6, a7, a8, a9, a10, a11, a12, a13, a14, a15, a16, a17, a18, a19, a20, a21, a22, a23, a24, a25, a26, a27, a28, a29, a30, a31) (nI m) :=
  br_f (nI_pos (by omega)) (br_t (nI_lt (b := 6) hm (by omega)) H)
theorem tc_goalY {post : Int32 → St2 → Prop} {g : Nat} (hg : g < 4) (H : ∀ b1 b2 : Nat → Int32, b1 0 = (-1) - nI g → post 1 (1, 1, ru, no, th, la, en, sc, wh, tm, tl, co, wo, fs, wf, ws, b1, b2, a3, a4, a5, a6, a7, a8, a9, a10, a11, a12, a13, a14, a15, a16, a17, a18, a19, a20, a21, a22, a23, a24, a25, a26, a27, a28, a29, a30, a31)) : wpX_goal post (0, 0, ru, no, th, la, en, sc, wh, tm, tl, co, wo, fs, wf, ws, a1, a2, a3, a4, a5, a6, a7, a8, a9, a10, a11, a12, a13, a14, a15, a16, a17, a18, a19, a20, a21, a22, a23, a24, a25, a26, a27, a28, a29, a30, a31) (nI g) := by
  unfold wpX_goal
  refine tc_bg hg (br_t rfl (br_f (by decide) (br_f (by decide) ⟨pk_in 0 6 (by omega), nm_e (nm_r (e' := 1) (by decide) ⟨pk_in 0 7 (by omega), nm_e (nm_r (e' := 1) (by decide) (H _ _ ?_))⟩)⟩)))
  rw [tc_cl0, pk_us]
theorem tc_goalN {post : Int32 → St2 → Prop} {x : Int32} (h : x < 0 ∨ 3 < x) (H : post (-1) (dr, ph, ru, no, th, la, en, sc, wh, tm, tl, co, wo, fs, wf, ws, a1, a2, a3, a4, a5, a6, a7, a8, a9, a10, a11, a12, a13, a14, a15, a16, a17, a18, a19, a20, a21, a22, a23, a24, a25, a26, a27, a28, a29, a30, a31)) : wpX_goal post (dr, ph, ru, no, th, la, en, sc, wh, tm, tl, co, wo, fs, wf, ws, a1, a2, a3, a4, a5, a6, a7, a8, a9, a10, a11, a12, a13, a14, a15, a16, a17, a18, a19, a20, a21, a22, a23, a24, a25, a26, a27, a28, a29, a30, a31) x := by
  unfold wpX_goal
  exact tc_bgN h (br_f (by decide) H)
theorem tc_patB {post : Int32 → St2 → Prop} {x : Int32} (h : x < 0 ∨ 5 < x) (H : post (-1) (dr, ph, ru, no, th, la, en, sc, wh, tm, tl, co, wo, fs, wf, ws, a1, a2, a3, a4, a5, a6, a7, a8, a9, a10, a11, a12, a13, a14, a15, a16, a17, a18, a19, a20, a21, a22, a23, a24, a25, a26, a27, a28, a29, a30, a31)) : wpX_pattern post (dr, ph, ru, no, th, la, en, sc, wh, tm, tl, co, wo, fs, wf, ws, a1, a2, a3, a4, a5, a6, a7, a8, a9, a10, a11, a12, a13, a14, a15, a16, a17, a18, a19, a20, a21, a22, a23, a24, a25, a26, a27, a28, a29, a30, a31) x := by
  unfold wpX_pattern
  exact tc_boN h (br_f (by decide) H)
theorem tc_patL00 {post : Int32 → St2 → Prop} (H : ∀ b1 b2 : Nat → Int32, b1 0 = nI 0 → post 1 (1, 1, ru, no, th, la, en, sc, wh, tm, tl, co, wo, fs, wf, ws, b1, b2, a3, a4, a5, a6, a7, a8, a9, a10, a11, a12, a13, a14, a15, a16, a17, a18, a19, a20, a21, a22, a23, a24, a25, a26, a27, a28, a29, a30, a31)) : wpX_pattern post (0, 0, ru, no, th, la, en, sc, wh, tm, tl, co, wo, fs, wf, ws, a1, a2, a3, a4, a5, a6, a7, a8, a9, a10, a11, a12, a13, a14, a15, a16, a17, a18, a19, a20, a21, a22, a23, a24, a25, a26, a27, a28, a29, a30, a31) (nI 0) := by
  unfold wpX_pattern
  refine tc_bo (by omega) (br_t rfl ⟨by decide, br_t (by decide) (br_f (by decide) (br_f (by decide) (br_t (by decide) ⟨pk_in 0 6 (by omega), nm_e (nm_r (e' := 1) (by decide) ⟨pk_in 0 7 (by omega), nm_e (nm_r (e' := 1) (by decide) (H _ _ ?_))⟩)⟩)))⟩)
  rw [show (0 : Int32).toNatClampNeg = 0 by decide, pk_us]
theorem tc_patL10 {post : Int32 → St2 → Prop} (H : ∀ b1 b2 : Nat → Int32, b1 0 = nI 1 → post 1 (1, 1, ru, no, th, la, en, sc, wh, tm, tl, co, wo, fs, wf, ws, b1, b2, a3, a4, a5, a6, a7, a8, a9, a10, a11, a12, a13, a14, a15, a16, a17, a18, a19, a20, a21, a22, a23, a24, a25, a26, a27, a28, a29, a30, a31)) : wpX_pattern post (0, 0, ru, no, th, la, en, sc, wh, tm, tl, co, wo, fs, wf, ws, a1, a2, a3, a4, a5, a6, a7, a8, a9, a10, a11, a12, a13, a14, a15, a16, a17, a18, a19, a20, a21, a22, a23, a24, a25, a26, a27, a28, a29, a30, a31) (nI 1) := by
  unfold wpX_pattern
  refine tc_bo (by omega) (br_t rfl ⟨by decide, br_t (by decide) (br_f (by decide) (br_f (by decide) (br_t (by decide) ⟨pk_in 0 6 (by omega), nm_e (nm_r (e' := 1) (by decide) ⟨pk_in 0 7 (by omega), nm_e (nm_r (e' := 1) (by decide) (H _ _ ?_))⟩)⟩)))⟩)
  rw [show (0 : Int32).toNatClampNeg = 0 by decide, pk_us]
theorem tc_patL01 {post : Int32 → St2 → Prop} (H : ∀ b1 b2 : Nat → Int32, b1 1 = nI 0 → post 2 (2, 2, ru, no, th, la, en, sc, wh, tm, tl, co, wo, fs, wf, ws, b1, b2, a3, a4, a5, a6, a7, a8, a9, a10, a11, a12, a13, a14, a15, a16, a17, a18, a19, a20, a21, a22, a23, a24, a25, a26, a27, a28, a29, a30, a31)) : wpX_pattern post (1, 1, ru, no, th, la, en, sc, wh, tm, tl, co, wo, fs, wf, ws, a1, a2, a3, a4, a5, a6, a7, a8, a9, a10, a11, a12, a13, a14, a15, a16, a17, a18, a19, a20, a21, a22, a23, a24, a25, a26, a27, a28, a29, a30, a31) (nI 0) := by
  unfold wpX_pattern
  refine tc_bo (by omega) (br_t rfl ⟨by decide, br_t (by decide) (br_f (by decide) (br_f (by decide) (br_t (by decide) ⟨pk_in 1 6 (by omega), nm_e (nm_r (e' := 2) (by decide) ⟨pk_in 1 7 (by omega), nm_e (nm_r (e' := 2) (by decide) (H _ _ ?_))⟩)⟩)))⟩)
  rw [show (1 : Int32).toNatClampNeg = 1 by decide, pk_us]
theorem tc_patL11 {post : Int32 → St2 → Prop} (H : ∀ b1 b2 : Nat → Int32, b1 1 = nI 1 → post 2 (2, 2, ru, no, th, la, en, sc, wh, tm, tl, co, wo, fs, wf, ws, b1, b2, a3, a4, a5, a6, a7, a8, a9, a10, a11, a12, a13, a14, a15, a16, a17, a18, a19, a20, a21, a22, a23, a24, a25, a26, a27, a28, a29, a30, a31)) : wpX_pattern post (1, 1, ru, no, th, la, en, sc, wh, tm, tl, co, wo, fs, wf, ws, a1, a2, a3, a4, a5, a6, a7, a8, a9, a10, a11, a12, a13, a14, a15, a16, a17, a18, a19, a20, a21, a22, a23, a24, a25, a26, a27, a28, a29, a30, a31) (nI 1) := by
  unfold wpX_pattern
  refine tc_bo (by omega) (br_t rfl ⟨by decide, br_t (by decide) (br_f (by decide) (br_f (by decide) (br_t (by decide) ⟨pk_in 1 6 (by omega), nm_e (nm_r (e' := 2) (by decide) ⟨pk_in 1 7 (by omega), nm_e (nm_r (e' := 2) (by decide) (H _ _ ?_))⟩)⟩)))⟩)
  rw [show (1 : Int32).toNatClampNeg = 1 by decide, pk_us]
theorem tc_patU2 {post : Int32 → St2 → Prop} (H : ∀ b1 : Nat → Int32, b1 0 = a1 0 → b1 1 = nI 2 → post 1 (2, 1, ru, no, th, la, en, sc, wh, tm, tl, co, wo, fs, wf, ws, b1, a2, a3, a4, a5, a6, a7, a8, a9, a10, a11, a12, a13, a14, a15, a16, a17, a18, a19, a20, a21, a22, a23, a24, a25, a26, a27, a28, a29, a30, a31)) : wpX_pattern post (1, 1, ru, no, th, la, en, sc, wh, tm, tl, co, wo, fs, wf, ws, a1, a2, a3, a4, a5, a6, a7, a8, a9, a10, a11, a12, a13, a14, a15, a16, a17, a18, a19, a20, a21, a22, a23, a24, a25, a26, a27, a28, a29, a30, a31) (nI 2) := by
  unfold wpX_pattern
  refine tc_bo (by omega) (br_t rfl ⟨by decide, br_t (by decide) (br_f (by decide) (br_f (by decide) (br_f (by decide) (nm_r (e' := 1) (by decide) ⟨pk_in 1 7 (by omega), nm_e (nm_r (e' := 2) (by decide) (H _ ?_ ?_))⟩))))⟩)
  · rw [show (1 : Int32).toNatClampNeg = 1 by decide, pk_un (by omega)]
  · rw [show (1 : Int32).toNatClampNeg = 1 by decide, pk_us]
theorem tc_patU3 {post : Int32 → St2 → Prop} (H : ∀ b1 : Nat → Int32, b1 0 = a1 0 → b1 1 = nI 3 → post 1 (2, 1, ru, no, th, la, en, sc, wh, tm, tl, co, wo, fs, wf, ws, b1, a2, a3, a4, a5, a6, a7, a8, a9, a10, a11, a12, a13, a14, a15, a16, a17, a18, a19, a20, a21, a22, a23, a24, a25, a26, a27, a28, a29, a30, a31)) : wpX_pattern post (1, 1, ru, no, th, la, en, sc, wh, tm, tl, co, wo, fs, wf, ws, a1, a2, a3, a4, a5, a6, a7, a8, a9, a10, a11, a12, a13, a14, a15, a16, a17, a18, a19, a20, a21, a22, a23, a24, a25, a26, a27, a28, a29, a30, a31) (nI 3) := by
  unfold wpX_pattern
  refine tc_bo (by omega) (br_t rfl ⟨by decide, br_t (by decide) (br_f (by decide) (br_f (by decide) (br_f (by decide) (nm_r (e' := 1) (by decide) ⟨pk_in 1 7 (by omega), nm_e (nm_r (e' := 2) (by decide) (H _ ?_ ?_))⟩))))⟩)
  · rw [show (1 : Int32).toNatClampNeg = 1 by decide, pk_un (by omega)]
  · rw [show (1 : Int32).toNatClampNeg = 1 by decide, pk_us]
theorem tc_patF20 {post : Int32 → St2 → Prop} (H : post (-3) (0, 0, ru, no, th, la, en, sc, wh, tm, tl, co, wo, fs, wf, ws, a1, a2, a3, a4, a5, a6, a7, a8, a9, a10, a11, a12, a13, a14, a15, a16, a17, a18, a19, a20, a21, a22, a23, a24, a25, a26, a27, a28, a29, a30, a31)) : wpX_pattern post (0, 0, ru, no, th, la, en, sc, wh, tm, tl, co, wo, fs, wf, ws, a1, a2, a3, a4, a5, a6, a7, a8, a9, a10, a11, a12, a13, a14, a15, a16, a17, a18, a19, a20, a21, a22, a23, a24, a25, a26, a27, a28, a29, a30, a31) (nI 2) := by
  unfold wpX_pattern
  exact tc_bo (by omega) (br_t rfl ⟨by decide, br_f (by decide) H⟩)
theorem tc_patF30 {post : Int32 → St2 → Prop} (H : post (-3) (0, 0, ru, no, th, la, en, sc, wh, tm, tl, co, wo, fs, wf, ws, a1, a2, a3, a4, a5, a6, a7, a8, a9, a10, a11, a12, a13, a14, a15, a16, a17, a18, a19, a20, a21, a22, a23, a24, a25, a26, a27, a28, a29, a30, a31)) : wpX_pattern post (0, 0, ru, no, th, la, en, sc, wh, tm, tl, co, wo, fs, wf, ws, a1, a2, a3, a4, a5, a6, a7, a8, a9, a10, a11, a12, a13, a14, a15, a16, a17, a18, a19, a20, a21, a22, a23, a24, a25, a26, a27, a28, a29, a30, a31) (nI 3) := by
  unfold wpX_pattern
  exact tc_bo (by omega) (br_t rfl ⟨by decide, br_f (by decide) H⟩)
theorem tc_patF40 {post : Int32 → St2 → Prop} (H : post (-3) (0, 0, ru, no, th, la, en, sc, wh, tm, tl, co, wo, fs, wf, ws, a1, a2, a3, a4, a5, a6, a7, a8, a9, a10, a11, a12, a13, a14, a15, a16, a17, a18, a19, a20, a21, a22, a23, a24, a25, a26, a27, a28, a29, a30, a31)) : wpX_pattern post (0, 0, ru, no, th, la, en, sc, wh, tm, tl, co, wo, fs, wf, ws, a1, a2, a3, a4, a5, a6, a7, a8, a9, a10, a11, a12, a13, a14, a15, a16, a17, a18, a19, a20, a21, a22, a23, a24, a25, a26, a27, a28, a29, a30, a31) (nI 4) := by
  unfold wpX_pattern
  exact tc_bo (by omega) (br_t rfl ⟨by decide, br_f (by decide) H⟩)
theorem tc_patF50 {post : Int32 → St2 → Prop} (H : post (-3) (0, 0, ru, no, th, la, en, sc, wh, tm, tl, co, wo, fs, wf, ws, a1, a2, a3, a4, a5, a6, a7, a8, a9, a10, a11, a12, a13, a14, a15, a16, a17, a18, a19, a20, a21, a22, a23, a24, a25, a26, a27, a28, a29, a30, a31)) : wpX_pattern post (0, 0, ru, no, th, la, en, sc, wh, tm, tl, co, wo, fs, wf, ws, a1, a2, a3, a4, a5, a6, a7, a8, a9, a10, a11, a12, a13, a14, a15, a16, a17, a18, a19, a20, a21, a22, a23, a24, a25, a26, a27, a28, a29, a30, a31) (nI 5) := by
  unfold wpX_pattern
  exact tc_bo (by omega) (br_t rfl ⟨by decide, br_f (by decide) H⟩)
theorem tc_patF41 {post : Int32 → St2 → Prop} (H : post (-3) (1, 1, ru, no, th, la, en, sc, wh, tm, tl, co, wo, fs, wf, ws, a1, a2, a3, a4, a5, a6, a7, a8, a9, a10, a11, a12, a13, a14, a15, a16, a17, a18, a19, a20, a21, a22, a23, a24, a25, a26, a27, a28, a29, a30, a31)) : wpX_pattern post (1, 1, ru, no, th, la, en, sc, wh, tm, tl, co, wo, fs, wf, ws, a1, a2, a3, a4, a5, a6, a7, a8, a9, a10, a11, a12, a13, a14, a15, a16, a17, a18, a19, a20, a21, a22, a23, a24, a25, a26, a27, a28, a29, a30, a31) (nI 4) := by
  unfold wpX_pattern
  exact tc_bo (by omega) (br_t rfl ⟨by decide, br_f (by decide) H⟩)
theorem tc_patF51 {post : Int32 → St2 → Prop} (H : post (-3) (1, 1, ru, no, th, la, en, sc, wh, tm, tl, co, wo, fs, wf, ws, a1, a2, a3, a4, a5, a6, a7, a8, a9, a10, a11, a12, a13, a14, a15, a16, a17, a18, a19, a20, a21, a22, a23, a24, a25, a26, a27, a28, a29, a30, a31)) : wpX_pattern post (1, 1, ru, no, th, la, en, sc, wh, tm, tl, co, wo, fs, wf, ws, a1, a2, a3, a4, a5, a6, a7, a8, a9, a10, a11, a12, a13, a14, a15, a16, a17, a18, a19, a20, a21, a22, a23, a24, a25, a26, a27, a28, a29, a30, a31) (nI 5) := by
  unfold wpX_pattern
  exact tc_bo (by omega) (br_t rfl ⟨by decide, br_f (by decide) H⟩)
theorem tc_ruleG {post : Int32 → St2 → Prop} {x y : Int32} (h : x < 0 ∨ 3 < x) (H : post (-1) (dr, ph, ru, no, th, la, en, sc, wh, tm, tl, co, wo, fs, wf, ws, a1, a2, a3, a4, a5, a6, a7, a8, a9, a10, a11, a12, a13, a14, a15, a16, a17, a18, a19, a20, a21, a22, a23, a24, a25, a26, a27, a28, a29, a30, a31)) : wpX_rule post (dr, ph, ru, no, th, la, en, sc, wh, tm, tl, co, wo, fs, wf, ws, a1, a2, a3, a4, a5, a6, a7, a8, a9, a10, a11, a12, a13, a14, a15, a16, a17, a18, a19, a20, a21, a22, a23, a24, a25, a26, a27, a28, a29, a30, a31) x y := by
  unfold wpX_rule
  exact tc_bgN h (br_f (by decide) H)
theorem tc_ruleC {post : Int32 → St2 → Prop} {m : Nat} {y : Int32} (hm : m < 4) (h : y < 0 ∨ 9 < y) (H : post (-1) (dr, ph, ru, no, th, la, en, sc, wh, tm, tl, co, wo, fs, wf, ws, a1, a2, a3, a4, a5, a6, a7, a8, a9, a10, a11, a12, a13, a14, a15, a16, a17, a18, a19, a20, a21, a22, a23, a24, a25, a26, a27, a28, a29, a30, a31)) : wpX_rule post (dr, ph, ru, no, th, la, en, sc, wh, tm, tl, co, wo, fs, wf, ws, a1, a2, a3, a4, a5, a6, a7, a8, a9, a10, a11, a12, a13, a14, a15, a16, a17, a18, a19, a20, a21, a22, a23, a24, a25, a26, a27, a28, a29, a30, a31) (nI m) y := by
  unfold wpX_rule
  refine tc_bg hm (br_t rfl (br_c (fun _ => H) (fun z => br_f ?_ H)))
  exact tc_nle (h.resolve_left z)
theorem tc_ruleH {post : Int32 → St2 → Prop} {m c : Nat} (hm : m < 4) (hc : c ≤ 9) (hp : ¬ ph = 1) (H : post (-3) (dr, ph, ru, no, th, la, en, sc, wh, tm, tl, co, wo, fs, wf, ws, a1, a2, a3, a4, a5, a6, a7, a8, a9, a10, a11, a12, a13, a14, a15, a16, a17, a18, a19, a20, a21, a22, a23, a24, a25, a26, a27, a28, a29, a30, a31)) : wpX_rule post (dr, ph, ru, no, th, la, en, sc, wh, tm, tl, co, wo, fs, wf, ws, a1, a2, a3, a4, a5, a6, a7, a8, a9, a10, a11, a12, a13, a14, a15, a16, a17, a18, a19, a20, a21, a22, a23, a24, a25, a26, a27, a28, a29, a30, a31) (nI m) (nI c) := by
  unfold wpX_rule
  exact tc_bg hm (br_t rfl (br_f (nI_pos (by omega)) (br_t (nI_le (b := 9) hc (by omega)) (br_f hp H))))
theorem tc_rule1 {post : Int32 → St2 → Prop} {m : Nat} (hm : m < 4) (h1 : ¬ 0 ≤ a1 0) (H : post (-1) ((nI 1), 1, 0, no, th, la, en, sc, wh, tm, tl, co, wo, fs, wf, ws, a1, a2, a3, a4, a5, a6, a7, a8, a9, a10, a11, a12, a13, a14, a15, a16, a17, a18, a19, a20, a21, a22, a23, a24, a25, a26, a27, a28, a29, a30, a31)) : wpX_rule post ((nI 1), 1, 0, no, th, la, en, sc, wh, tm, tl, co, wo, fs, wf, ws, a1, a2, a3, a4, a5, a6, a7, a8, a9, a10, a11, a12, a13, a14, a15, a16, a17, a18, a19, a20, a21, a22, a23, a24, a25, a26, a27, a28, a29, a30, a31) (nI m) (nI 0) := by
  unfold wpX_rule
  exact tc_bg hm (br_t rfl (br_f (by decide) (br_t (by decide) (br_t rfl (br_f (by decide) (br_t rfl (br_f h1 (br_t rfl H))))))))
theorem tc_70 (i : Nat) : (7 * 0 + nI i : Int32) = nI i := by
  show nI 7 * nI 0 + nI i = nI i
  rw [pk_mul, nI_add, Nat.mul_zero, Nat.zero_add]
theorem tc_rule66 {post : Int32 → St2 → Prop} {d : Nat} {x1 x2 : Int32} (hd : d ≤ 2)
    (H : ∀ (r : Int32) (b3 b4 b5 b6 : Nat → Int32), r = 0 → b3 0 = x1 → b4 0 = x2 → b5 0 = nI d → (∀ j, j < d → b6 j = a1 j) → post r (0, 0, (nI 1), no, th, 0, en, sc, wh, tm, tl, co, wo, fs, wf, ws, a1, a2, b3, b4, b5, b6, a7, a8, a9, a10, a11, a12, a13, a14, a15, a16, a17, a18, a19, a20, a21, a22, a23, a24, a25, a26, a27, a28, a29, a30, a31)) :
    wX_rule_66 post x1 x2 (nI d) ph 0 no th la en sc wh tm tl co wo fs wf ws a1 a2 a3 a4 a5 a6 a7 a8 a9 a10 a11 a12 a13 a14 a15 a16 a17 a18 a19 a20 a21 a22 a23 a24 a25 a26 a27 a28 a29 a30 a31 := by
  have i0 : vp_in (0 : Int32) 10 := pk_in 0 10 (by omega)
  unfold wX_rule_66
  refine ⟨i0, nm_e ⟨i0, nm_e ⟨i0, nm_e ?_⟩⟩⟩
  refine pk_loop (fun n i s => wX_rule_101 post (nI d) ph 0 no th la en sc wh tm tl co wo fs wf ws n (nI i) a1 a2 (upd a3 (0 : Int32).toNatClampNeg x1) (upd a4 (0 : Int32).toNatClampNeg x2) (upd a5 (0 : Int32).toNatClampNeg (nI d)) s a7 a8 a9 a10 a11 a12 a13 a14 a15 a16 a17 a18 a19 a20 a21 a22 a23 a24 a25 a26 a27 a28 a29 a30 a31) (fun i s => ∀ j, j < i → s j = a1 j) d 0 a6 (by omega) (fun j hj => absurd hj (by omega)) ?_ ?_
  · intro n s hs
    exact pk_le d d (fun _ => nm_r (e' := nI 1) (by decide) (H _ _ _ _ _ (by decide) (by rw [tc_cl0, pk_us]) (by rw [tc_cl0, pk_us]) (by rw [tc_cl0, pk_us]) hs)) (fun z => absurd z (by omega))
  · intro n i s hi hs hw
    exact pk_le d i (fun z => absurd z (by omega)) (fun _ => ⟨pk_in i 7 (by omega), pk_in i 70 (by omega) (tc_70 i), nm_e (nm_r (nI_1 i) (hw _ (tc_fill (by rw [tc_70, nI_clamp (by omega)]) hs (by rw [nI_clamp (by omega)]))))⟩)
theorem tc_ruleA {post : Int32 → St2 → Prop} {m c d : Nat} (hm : m < 4) (hc : c ≤ 9) (hd : d ≤ 2) (h1 : c ≠ 0 ∨ 0 ≤ a1 0 ∨ d ≠ 1)
    (H : ∀ (r : Int32) (b3 b4 b5 b6 : Nat → Int32), r = 0 → b3 0 = nI m → b4 0 = nI c → b5 0 = nI d → (∀ j, j < d → b6 j = a1 j) → post r (0, 0, (nI 1), no, th, 0, en, sc, wh, tm, tl, co, wo, fs, wf, ws, a1, a2, b3, b4, b5, b6, a7, a8, a9, a10, a11, a12, a13, a14, a15, a16, a17, a18, a19, a20, a21, a22, a23, a24, a25, a26, a27, a28, a29, a30, a31)) :
    wpX_rule post ((nI d), 1, 0, no, th, la, en, sc, wh, tm, tl, co, wo, fs, wf, ws, a1, a2, a3, a4, a5, a6, a7, a8, a9, a10, a11, a12, a13, a14, a15, a16, a17, a18, a19, a20, a21, a22, a23, a24, a25, a26, a27, a28, a29, a30, a31) (nI m) (nI c) := by
  have t : wX_rule_66 post (nI m) (nI c) (nI d) 1 0 no th la en sc wh tm tl co wo fs wf ws a1 a2 a3 a4 a5 a6 a7 a8 a9 a10 a11 a12 a13 a14 a15 a16 a17 a18 a19 a20 a21 a22 a23 a24 a25 a26 a27 a28 a29 a30 a31 := tc_rule66 hd H
  unfold wpX_rule
  refine tc_bg hm (br_t rfl (br_f (nI_pos (by omega)) (br_t (nI_le (b := 9) hc (by omega)) (br_t rfl (br_f (by decide) (pk_eq c 0 (fun e0 => br_c (fun _ => t) (fun hn => br_f ?_ t)) (fun _ => t)))))))
  intro z
  have d1 : d = 1 := (nI_eq (a := d) (b := 1) (by omega) (by omega)).mp z
  rcases h1 with h | h | h
  · exact h e0
  · exact hn h
  · exact h d1
theorem tc_treeB {post : Int32 → St2 → Prop} {x : Int32} (h : x < 0 ∨ 5 < x) (H : post (-1) (dr, ph, ru, no, th, la, en, sc, wh, tm, tl, co, wo, fs, wf, ws, a1, a2, a3, a4, a5, a6, a7, a8, a9, a10, a11, a12, a13, a14, a15, a16, a17, a18, a19, a20, a21, a22, a23, a24, a25, a26, a27, a28, a29, a30, a31)) : wpX_tree post (dr, ph, ru, no, th, la, en, sc, wh, tm, tl, co, wo, fs, wf, ws, a1, a2, a3, a4, a5, a6, a7, a8, a9, a10, a11, a12, a13, a14, a15, a16, a17, a18, a19, a20, a21, a22, a23, a24, a25, a26, a27, a28, a29, a30, a31) x := by
  unfold wpX_tree
  exact tc_boN h (br_f (by decide) H)
theorem tc_treeF2 {post : Int32 → St2 → Prop} (H : post (-3) (dr, ph, ru, 0, 0, la, en, sc, wh, tm, tl, co, wo, fs, wf, ws, a1, a2, a3, a4, a5, a6, a7, a8, a9, a10, a11, a12, a13, a14, a15, a16, a17, a18, a19, a20, a21, a22, a23, a24, a25, a26, a27, a28, a29, a30, a31)) : wpX_tree post (dr, ph, ru, 0, 0, la, en, sc, wh, tm, tl, co, wo, fs, wf, ws, a1, a2, a3, a4, a5, a6, a7, a8, a9, a10, a11, a12, a13, a14, a15, a16, a17, a18, a19, a20, a21, a22, a23, a24, a25, a26, a27, a28, a29, a30, a31) (nI 2) := by
  unfold wpX_tree
  exact tc_bo (by omega) (br_t rfl ⟨by decide, br_f (by decide) H⟩)
theorem tc_treeF3 {post : Int32 → St2 → Prop} (H : post (-3) (dr, ph, ru, 0, 0, la, en, sc, wh, tm, tl, co, wo, fs, wf, ws, a1, a2, a3, a4, a5, a6, a7, a8, a9, a10, a11, a12, a13, a14, a15, a16, a17, a18, a19, a20, a21, a22, a23, a24, a25, a26, a27, a28, a29, a30, a31)) : wpX_tree post (dr, ph, ru, 0, 0, la, en, sc, wh, tm, tl, co, wo, fs, wf, ws, a1, a2, a3, a4, a5, a6, a7, a8, a9, a10, a11, a12, a13, a14, a15, a16, a17, a18, a19, a20, a21, a22, a23, a24, a25, a26, a27, a28, a29, a30, a31) (nI 3) := by
  unfold wpX_tree
  exact tc_bo (by omega) (br_t rfl ⟨by decide, br_f (by decide) H⟩)
theorem tc_treeF4 {post : Int32 → St2 → Prop} (H : post (-3) (dr, ph, ru, 0, 0, la, en, sc, wh, tm, tl, co, wo, fs, wf, ws, a1, a2, a3, a4, a5, a6, a7, a8, a9, a10, a11, a12, a13, a14, a15, a16, a17, a18, a19, a20, a21, a22, a23, a24, a25, a26, a27, a28, a29, a30, a31)) : wpX_tree post (dr, ph, ru, 0, 0, la, en, sc, wh, tm, tl, co, wo, fs, wf, ws, a1, a2, a3, a4, a5, a6, a7, a8, a9, a10, a11, a12, a13, a14, a15, a16, a17, a18, a19, a20, a21, a22, a23, a24, a25, a26, a27, a28, a29, a30, a31) (nI 4) := by
  unfold wpX_tree
  exact tc_bo (by omega) (br_t rfl ⟨by decide, br_f (by decide) H⟩)
theorem tc_treeF5 {post : Int32 → St2 → Prop} (H : post (-3) (dr, ph, ru, 0, 0, la, en, sc, wh, tm, tl, co, wo, fs, wf, ws, a1, a2, a3, a4, a5, a6, a7, a8, a9, a10, a11, a12, a13, a14, a15, a16, a17, a18, a19, a20, a21, a22, a23, a24, a25, a26, a27, a28, a29, a30, a31)) : wpX_tree post (dr, ph, ru, 0, 0, la, en, sc, wh, tm, tl, co, wo, fs, wf, ws, a1, a2, a3, a4, a5, a6, a7, a8, a9, a10, a11, a12, a13, a14, a15, a16, a17, a18, a19, a20, a21, a22, a23, a24, a25, a26, a27, a28, a29, a30, a31) (nI 5) := by
  unfold wpX_tree
  exact tc_bo (by omega) (br_t rfl ⟨by decide, br_f (by decide) H⟩)
theorem tc_treeL0 {post : Int32 → St2 → Prop} (H : ∀ b7 b8 b9 b10 b11 : Nat → Int32, b7 0 = nI 0 → b8 0 = -1 → b10 0 = 0 → b11 0 = 0 → post 1 (dr, ph, ru, 1, (nI 1), la, en, sc, wh, tm, tl, co, wo, fs, wf, ws, a1, a2, a3, a4, a5, a6, b7, b8, b9, b10, b11, a12, a13, a14, a15, a16, a17, a18, a19, a20, a21, a22, a23, a24, a25, a26, a27, a28, a29, a30, a31)) : wpX_tree post (dr, ph, ru, 0, 0, la, en, sc, wh, tm, tl, co, wo, fs, wf, ws, a1, a2, a3, a4, a5, a6, a7, a8, a9, a10, a11, a12, a13, a14, a15, a16, a17, a18, a19, a20, a21, a22, a23, a24, a25, a26, a27, a28, a29, a30, a31) (nI 0) := by
  have i0 : vp_in (0 : Int32) 24 := pk_in 0 24 (by omega)
  unfold wpX_tree
  refine tc_bo (by omega) (br_t rfl ⟨by decide, br_t (by decide) (br_f (by decide) (br_f (by decide) ⟨i0, nm_e (br_t (by decide) ⟨i0, nm_e (br_t (by decide) ⟨i0, nm_e (br_t (by decide) ⟨pk_in 0 8 (by omega), nm_e (nm_r (e' := nI 1) (by decide) ⟨pk_in 0 8 (by omega) (by decide), nm_e (nm_r (e' := 1) (by decide) (H _ _ _ _ _ ?_ ?_ ?_ ?_))⟩)⟩)⟩)⟩)⟩))⟩)
  · rw [tc_cl0, pk_us]
  · rw [tc_cl0, pk_us]
  · rw [show (nI 1 - 1 : Int32).toNatClampNeg = 0 by decide, pk_us]
  · rw [tc_cl0, pk_us]
theorem tc_treeL1 {post : Int32 → St2 → Prop} (H : ∀ b7 b8 b9 b10 b11 : Nat → Int32, b7 0 = nI 1 → b8 0 = -1 → b10 0 = 0 → b11 0 = 0 → post 1 (dr, ph, ru, 1, (nI 1), la, en, sc, wh, tm, tl, co, wo, fs, wf, ws, a1, a2, a3, a4, a5, a6, b7, b8, b9, b10, b11, a12, a13, a14, a15, a16, a17, a18, a19, a20, a21, a22, a23, a24, a25, a26, a27, a28, a29, a30, a31)) : wpX_tree post (dr, ph, ru, 0, 0, la, en, sc, wh, tm, tl, co, wo, fs, wf, ws, a1, a2, a3, a4, a5, a6, a7, a8, a9, a10, a11, a12, a13, a14, a15, a16, a17, a18, a19, a20, a21, a22, a23, a24, a25, a26, a27, a28, a29, a30, a31) (nI 1) := by
  have i0 : vp_in (0 : Int32) 24 := pk_in 0 24 (by omega)
  unfold wpX_tree
  refine tc_bo (by omega) (br_t rfl ⟨by decide, br_t (by decide) (br_f (by decide) (br_f (by decide) ⟨i0, nm_e (br_t (by decide) ⟨i0, nm_e (br_t (by decide) ⟨i0, nm_e (br_t (by decide) ⟨pk_in 0 8 (by omega), nm_e (nm_r (e' := nI 1) (by decide) ⟨pk_in 0 8 (by omega) (by decide), nm_e (nm_r (e' := 1) (by decide) (H _ _ _ _ _ ?_ ?_ ?_ ?_))⟩)⟩)⟩)⟩)⟩))⟩)
  · rw [tc_cl0, pk_us]
  · rw [tc_cl0, pk_us]
  · rw [show (nI 1 - 1 : Int32).toNatClampNeg = 0 by decide, pk_us]
  · rw [tc_cl0, pk_us]
end
end
section
/-! what the law expects, as plain functions of the five cells -/
def tc_f (p0 : Int32) : Int32 := if p0 < 0 then 0 else if 3 < p0 then 0 else 1
def tc_due (p1 x12 : Int32) : Int32 := if p1 < 0 then -1 else if 5 < p1 then -1 else if 2 ≤ p1 then (if 4 ≤ p1 then -3 else if x12 = 0 then -3 else 1) else if x12 = 0 then 1 else 2
def tc_many (x12 x14 : Int32) : Int32 := if x14 ≤ 0 then (if x12 = 0 then 0 else 1) else x14
def tc_fits (p2 p3 : Int32) : Int32 := if p2 < 0 then 0 else if 3 < p2 then 0 else if p3 < 0 then 0 else if 9 < p3 then 0 else 1
def tc_alone (x12 x14 : Int32) : Int32 := if x12 = 0 then 0 else if 0 ≤ x14 then 0 else 1
def tc_added (x16 x15 al p3 : Int32) : Int32 := if x16 = 0 then 0 else if x15 = 1 then (if al = 0 then 1 else if p3 = 0 then 0 else 1) else 0
def tc_leaf (p4 : Int32) : Int32 := if p4 = 0 then 1 else if p4 = 1 then 1 else 0
def tc_cov (p1 p4 x12 x18 x19 : Int32) : Int32 := if x18 = 0 then 0 else if x12 = 0 then (if x19 = 0 then 0 else if p1 = p4 then 1 else 0) else 0
def tc_sG (x12 : Int32) : Int32 := if x12 = 0 then -1 else 1
def tc_sR (x16 x15 x18 : Int32) : Int32 := if x16 = 0 then -1 else if x15 = 1 then (if x18 = 0 then -1 else 0) else -3
def tc_sT (p4 x19 : Int32) : Int32 := if p4 < 0 then -1 else if p4 ≤ 5 then (if x19 = 0 then -3 else 1) else -1
def tc_sC (p2 p3 x20 : Int32) : Int32 := if p2 < 0 then -1 else if p2 ≤ 3 then (if x20 = 0 then -4 else p3) else -1
def tc_sS (x18 x12 : Int32) : Int32 := if x18 = 0 then 1 else if x12 = 0 then 2 else 1
section
variable {post : Int32 → St0 → Prop} {mc ms kc ks : Nat} {x1 x2 x3 x4 x6 x7 x8 x9 x10 x11 x12 x14 x15 x16 x18 x19 x20 : Int32}
theorem tc_w392 (hp : post 1 ()) {z1 z0 : Int32} (hz : z1 = z0) (h : x11 = tc_sS x18 x12) : wL_lawOf_392 post mc ms x11 x12 x18 z0 z1 kc ks := by
  unfold tc_sS at h
  unfold wL_lawOf_392
  refine br_t hz (br_c (fun c => ?_) (fun c => br_c (fun d => ?_) (fun d => ?_)))
  · rw [if_pos c] at h
    exact br_t h hp
  · rw [if_neg c, if_pos d] at h
    exact br_t h hp
  · rw [if_neg c, if_neg d] at h
    exact br_t h hp
theorem tc_w363 (hp : post 1 ()) {z1 z0 : Int32} (hz : z1 = z0) (hC : x10 = tc_sC x2 x3 x20) (h : x11 = tc_sS x18 x12) : wL_lawOf_363 post mc ms x2 x3 x10 x11 x12 x18 x20 z0 z1 kc ks := by
  unfold tc_sC at hC
  unfold wL_lawOf_363
  refine br_t hz (br_c (fun c => ?_) (fun c => br_c (fun d => br_c (fun e => ?_) (fun e => ?_)) (fun d => ?_)))
  · rw [if_pos c] at hC
    exact tc_w392 hp hC h
  · rw [if_neg c, if_pos d, if_pos e] at hC
    exact tc_w392 hp hC h
  · rw [if_neg c, if_pos d, if_neg e] at hC
    exact tc_w392 hp hC h
  · rw [if_neg c, if_neg d] at hC
    exact tc_w392 hp hC h
theorem tc_w332 (hp : post 1 ()) {z1 z0 : Int32} (hz : z1 = z0) (hT : x9 = tc_sT x4 x19) (hC : x10 = tc_sC x2 x3 x20) (h : x11 = tc_sS x18 x12) : wL_lawOf_332 post mc ms x2 x3 x4 x9 x10 x11 x12 x18 x19 x20 z0 z1 kc ks := by
  unfold tc_sT at hT
  unfold wL_lawOf_332
  refine br_t hz (br_c (fun c => ?_) (fun c => br_c (fun d => br_c (fun e => ?_) (fun e => ?_)) (fun d => ?_)))
  · rw [if_pos c] at hT
    exact tc_w363 hp hT hC h
  · rw [if_neg c, if_pos d, if_pos e] at hT
    exact tc_w363 hp hT hC h
  · rw [if_neg c, if_pos d, if_neg e] at hT
    exact tc_w363 hp hT hC h
  · rw [if_neg c, if_neg d] at hT
    exact tc_w363 hp hT hC h
theorem tc_w290 (hp : post 1 ()) {z1 z0 : Int32} (hz : z1 = z0) (hP : x7 = x14) (hR : x8 = tc_sR x16 x15 x18) (hT : x9 = tc_sT x4 x19) (hC : x10 = tc_sC x2 x3 x20) (h : x11 = tc_sS x18 x12) :
    wL_lawOf_290 post mc ms x2 x3 x4 x7 x8 x9 x10 x11 x12 x14 x15 x16 x18 x19 x20 z0 z1 kc ks := by
  unfold tc_sR at hR
  unfold wL_lawOf_290
  refine br_t hz (br_t hP (br_c (fun c => ?_) (fun c => br_c (fun d => br_c (fun e => ?_) (fun e => ?_)) (fun d => ?_))))
  · rw [if_pos c] at hR
    exact tc_w332 hp hR hT hC h
  · rw [if_neg c, if_pos d, if_pos e] at hR
    exact tc_w332 hp hR hT hC h
  · rw [if_neg c, if_pos d, if_neg e] at hR
    exact tc_w332 hp hR hT hC h
  · rw [if_neg c, if_neg d] at hR
    exact tc_w332 hp hR hT hC h
theorem tc_w276 (hp : post 1 ()) (hG : x6 = tc_sG x12) (hP : x7 = x14) (hR : x8 = tc_sR x16 x15 x18) (hT : x9 = tc_sT x4 x19) (hC : x10 = tc_sC x2 x3 x20) (h : x11 = tc_sS x18 x12) :
    wL_lawOf_276 post mc ms x2 x3 x4 x6 x7 x8 x9 x10 x11 x12 x14 x15 x16 x18 x19 x20 kc ks := by
  unfold tc_sG at hG
  unfold wL_lawOf_276
  refine br_c (fun c => ?_) (fun c => ?_)
  · rw [if_pos c] at hG
    exact tc_w290 hp hG hP hR hT hC h
  · rw [if_neg c] at hG
    exact tc_w290 hp hG hP hR hT hC h
theorem tc_w248 (H : wL_lawOf_276 post mc ms x2 x3 x4 x6 x7 x8 x9 x10 x11 x12 x14 x15 x16 x18 x19 (tc_cov x1 x4 x12 x18 x19) kc ks) : wL_lawOf_248 post mc ms x1 x2 x3 x4 x6 x7 x8 x9 x10 x11 x12 x14 x15 x16 x18 x19 kc ks := by
  unfold tc_cov at H
  unfold wL_lawOf_248
  refine br_c (fun c => ?_) (fun c => br_c (fun d => br_c (fun e => ?_) (fun e => br_c (fun f => ?_) (fun f => ?_))) (fun d => ?_))
  · rw [if_pos c] at H
    exact H
  · rw [if_neg c, if_pos d, if_pos e] at H
    exact H
  · rw [if_neg c, if_pos d, if_neg e, if_pos f] at H
    exact H
  · rw [if_neg c, if_pos d, if_neg e, if_neg f] at H
    exact H
  · rw [if_neg c, if_neg d] at H
    exact H
theorem tc_w230 (H : wL_lawOf_248 post mc ms x1 x2 x3 x4 x6 x7 x8 x9 x10 x11 x12 x14 x15 x16 x18 (tc_leaf x4) kc ks) : wL_lawOf_230 post mc ms x1 x2 x3 x4 x6 x7 x8 x9 x10 x11 x12 x14 x15 x16 x18 kc ks := by
  unfold tc_leaf at H
  unfold wL_lawOf_230
  refine br_c (fun c => ?_) (fun c => br_c (fun d => ?_) (fun d => ?_))
  · rw [if_pos c] at H
    exact H
  · rw [if_neg c, if_pos d] at H
    exact H
  · rw [if_neg c, if_neg d] at H
    exact H
theorem tc_w203 {al : Int32} (H : wL_lawOf_230 post mc ms x1 x2 x3 x4 x6 x7 x8 x9 x10 x11 x12 x14 x15 x16 (tc_added x16 x15 al x3) kc ks) : wL_lawOf_203 post mc ms x1 x2 x3 x4 x6 x7 x8 x9 x10 x11 x12 x14 x15 x16 al kc ks := by
  unfold tc_added at H
  unfold wL_lawOf_203
  refine br_c (fun c => ?_) (fun c => br_c (fun d => br_c (fun e => ?_) (fun e => br_c (fun f => ?_) (fun f => ?_))) (fun d => ?_))
  · rw [if_pos c] at H
    exact H
  · rw [if_neg c, if_pos d, if_pos e] at H
    exact H
  · rw [if_neg c, if_pos d, if_neg e, if_pos f] at H
    exact H
  · rw [if_neg c, if_pos d, if_neg e, if_neg f] at H
    exact H
  · rw [if_neg c, if_neg d] at H
    exact H
theorem tc_w186 (H : wL_lawOf_203 post mc ms x1 x2 x3 x4 x6 x7 x8 x9 x10 x11 x12 x14 x15 x16 (tc_alone x12 x14) kc ks) : wL_lawOf_186 post mc ms x1 x2 x3 x4 x6 x7 x8 x9 x10 x11 x12 x14 x15 x16 kc ks := by
  unfold tc_alone at H
  unfold wL_lawOf_186
  refine br_c (fun c => ?_) (fun c => br_c (fun d => ?_) (fun d => ?_))
  · rw [if_pos c] at H
    exact H
  · rw [if_neg c, if_pos d] at H
    exact H
  · rw [if_neg c, if_neg d] at H
    exact H
theorem tc_w160 (H : wL_lawOf_186 post mc ms x1 x2 x3 x4 x6 x7 x8 x9 x10 x11 x12 x14 x15 (tc_fits x2 x3) kc ks) : wL_lawOf_160 post mc ms x1 x2 x3 x4 x6 x7 x8 x9 x10 x11 x12 x14 x15 kc ks := by
  unfold tc_fits at H
  unfold wL_lawOf_160
  refine br_c (fun c => ?_) (fun c => br_c (fun d => ?_) (fun d => br_c (fun e => ?_) (fun e => br_c (fun f => ?_) (fun f => ?_))))
  · rw [if_pos c] at H
    exact H
  · rw [if_neg c, if_pos d] at H
    exact H
  · rw [if_neg c, if_neg d, if_pos e] at H
    exact H
  · rw [if_neg c, if_neg d, if_neg e, if_pos f] at H
    exact H
  · rw [if_neg c, if_neg d, if_neg e, if_neg f] at H
    exact H
theorem tc_w138 (H : wL_lawOf_160 post mc ms x1 x2 x3 x4 x6 x7 x8 x9 x10 x11 x12 x14 (tc_many x12 x14) kc ks) : wL_lawOf_138 post mc ms x1 x2 x3 x4 x6 x7 x8 x9 x10 x11 x12 x14 kc ks := by
  unfold tc_many at H
  unfold wL_lawOf_138
  refine br_c (fun c => br_c (fun d => ?_) (fun d => ?_)) (fun c => ?_)
  · rw [if_pos c, if_pos d] at H
    exact H
  · rw [if_pos c, if_neg d] at H
    exact H
  · rw [if_neg c] at H
    exact H
theorem tc_w72 (H : wL_lawOf_138 post mc ms x1 x2 x3 x4 x6 x7 x8 x9 x10 x11 x12 (tc_due x1 x12) kc ks) : wL_lawOf_72 post mc ms x1 x2 x3 x4 x6 x7 x8 x9 x10 x11 x12 kc ks := by
  unfold tc_due at H
  unfold wL_lawOf_72
  refine br_c (fun c => br_t rfl ?_) (fun c => br_c (fun d => br_t rfl ?_) (fun d => br_f (by decide) (br_c (fun e => br_c (fun f => ?_) (fun f => br_c (fun g => ?_) (fun g => ?_))) (fun e => br_c (fun g => ?_) (fun g => ?_)))))
  · rw [if_pos c] at H
    exact H
  · rw [if_neg c, if_pos d] at H
    exact H
  · rw [if_neg c, if_neg d, if_pos e, if_pos f] at H
    exact H
  · rw [if_neg c, if_neg d, if_pos e, if_neg f, if_pos g] at H
    exact H
  · rw [if_neg c, if_neg d, if_pos e, if_neg f, if_neg g] at H
    exact H
  · rw [if_neg c, if_neg d, if_neg e, if_pos g] at H
    exact H
  · rw [if_neg c, if_neg d, if_neg e, if_neg g] at H
    exact H
/-- the law's end: the six answers are the expected ones -/
theorem tc_wEnd {p0 : Int32} (hp : post 1 ()) (hG : x6 = tc_sG (tc_f p0)) (hP : x7 = tc_due x1 (tc_f p0))
    (hR : x8 = tc_sR (tc_fits x2 x3) (tc_many (tc_f p0) (tc_due x1 (tc_f p0))) (tc_added (tc_fits x2 x3) (tc_many (tc_f p0) (tc_due x1 (tc_f p0))) (tc_alone (tc_f p0) (tc_due x1 (tc_f p0))) x3))
    (hT : x9 = tc_sT x4 (tc_leaf x4))
    (hC : x10 = tc_sC x2 x3 (tc_cov x1 x4 (tc_f p0) (tc_added (tc_fits x2 x3) (tc_many (tc_f p0) (tc_due x1 (tc_f p0))) (tc_alone (tc_f p0) (tc_due x1 (tc_f p0))) x3) (tc_leaf x4)))
    (hS : x11 = tc_sS (tc_added (tc_fits x2 x3) (tc_many (tc_f p0) (tc_due x1 (tc_f p0))) (tc_alone (tc_f p0) (tc_due x1 (tc_f p0))) x3) (tc_f p0)) :
    ((p0 < 0 → wL_lawOf_71 post mc ms x1 x2 x3 x4 x6 x7 x8 x9 x10 x11 kc ks) ∧ (¬ p0 < 0 → ((3 < p0 → wL_lawOf_71 post mc ms x1 x2 x3 x4 x6 x7 x8 x9 x10 x11 kc ks) ∧ (¬ 3 < p0 → wL_lawOf_72 post mc ms x1 x2 x3 x4 x6 x7 x8 x9 x10 x11 1 kc ks)))) := by
  have t : wL_lawOf_72 post mc ms x1 x2 x3 x4 x6 x7 x8 x9 x10 x11 (tc_f p0) kc ks := tc_w72 (tc_w138 (tc_w160 (tc_w186 (tc_w203 (tc_w230 (tc_w248 (tc_w276 hp hG hP hR hT hC hS)))))))
  clear hG hP hR hT hC hS
  unfold tc_f at t
  refine br_c (fun c => ?_) (fun c => br_c (fun d => ?_) (fun d => ?_))
  · rw [if_pos c] at t
    exact t
  · rw [if_neg c, if_pos d] at t
    exact t
  · rw [if_neg c, if_neg d] at t
    exact t
end
end
section
section
variable {dr ph ru no th la en sc wh tm tl co wo fs wf ws : Int32} {a1 a2 a3 a4 a5 a6 a7 a8 a9 a10 a11 a12 a13 a14 a15 a16 a17 a18 a19 a20 a21 a22 a23 a24 a25 a26 a27 a28 a29 a30 a31 : Nat → Int32}
def tc_okS (s : Int32) (u : St2) : Prop := ∀ post : Int32 → St2 → Prop, (∀ u', post s u') → wpX_states post u
def tc_okC (p2 c s : Int32) (u : St2) : Prop := ∀ post : Int32 → St2 → Prop, (∀ u', tc_okS s u' → post c u') → wpX_cost post u p2
def tc_okT (p4 t p2 c s : Int32) (u : St2) : Prop := ∀ post : Int32 → St2 → Prop, (∀ u', tc_okC p2 c s u' → post t u') → wpX_tree post u p4
def tc_okR (p2 p3 r p4 t c s : Int32) (u : St2) : Prop := ∀ post : Int32 → St2 → Prop, (∀ u', tc_okT p4 t p2 c s u' → post r u') → wpX_rule post u p2 p3
def tc_okP (p1 q p2 p3 r p4 t c s : Int32) (u : St2) : Prop := ∀ post : Int32 → St2 → Prop, (∀ u', tc_okR p2 p3 r p4 t c s u' → post q u') → wpX_pattern post u p1
def tc_okG (p0 g p1 q p2 p3 r p4 t c s : Int32) (u : St2) : Prop := ∀ post : Int32 → St2 → Prop, (∀ u', tc_okP p1 q p2 p3 r p4 t c s u' → post g u') → wpX_goal post u p0
/-- how the rule laid down fits the law's words -/
def tc_F (k l c o : Nat) (x12 x18 p1 p2 p3 : Int32) : Prop := (k = 3 ∧ ¬ x18 = 0 ∧ x12 = 0 ∧ p1 = nI o ∧ p2 = nI l ∧ p3 = nI c) ∨ (k ≠ 3 ∧ (x18 = 0 ∨ ¬ x12 = 0))
theorem tc_F_S {k l c o : Nat} {x12 x18 p1 p2 p3 : Int32} (h : tc_F k l c o x12 x18 p1 p2 p3) : (if k = 3 then nI 2 else nI 1) = tc_sS x18 x12 := by
  unfold tc_sS
  rcases h with ⟨hk, h18, h12, _⟩ | ⟨hk, h⟩
  · rw [if_pos hk, if_neg h18, if_pos h12]
    rfl
  · rw [if_neg hk]
    by_cases c : x18 = 0
    · rw [if_pos c]
      rfl
    · rw [if_neg c, if_neg (h.resolve_left c)]
      rfl
theorem tc_pS0 {k l c o g : Nat} {x12 x18 p1 p2 p3 : Int32} (hpre : tc_pre k l c o g ru a3 a4 a5 a6) (hF : tc_F k l c o x12 x18 p1 p2 p3) : tc_okS (tc_sS x18 x12) (dr, ph, ru, no, th, 0, en, sc, wh, tm, tl, co, wo, fs, wf, ws, a1, a2, a3, a4, a5, a6, a7, a8, a9, a10, a11, a12, a13, a14, a15, a16, a17, a18, a19, a20, a21, a22, a23, a24, a25, a26, a27, a28, a29, a30, a31) := by
  intro post H
  rw [← tc_F_S hF] at H
  exact tc_states0 hpre H
theorem tc_pS1 {k l c o g nE p : Nat} {x12 x18 p1 p2 p3 : Int32} (hi : tc_inv k l c o g nE [tc_hit k o p] ru en sc a3 a4 a12 a13 a15 a17) (hp : p < 2) (h18 : ∀ q, q < 2 → q ≠ p → a18 q = -1) (hF : tc_F k l c o x12 x18 p1 p2 p3) :
    tc_okS (tc_sS x18 x12) (dr, ph, ru, no, th, 1, en, sc, 0, 0, tl, co, wo, fs, wf, ws, a1, a2, a3, a4, a5, a6, a7, a8, a9, a10, a11, a12, a13, a14, a15, a16, a17, a18, a19, a20, a21, a22, a23, a24, a25, a26, a27, a28, a29, a30, a31) := by
  intro post H
  rw [← tc_F_S hF] at H
  exact tc_states1 hi hp h18 H
theorem tc_cov0 {p1 p4 x12 x18 : Int32} : tc_cov p1 p4 x12 x18 0 = 0 := by
  unfold tc_cov
  by_cases c : x18 = 0
  · rw [if_pos c]
  · rw [if_neg c]
    by_cases d : x12 = 0
    · rw [if_pos d, if_pos rfl]
    · rw [if_neg d]
theorem tc_covN {p1 p4 x12 x18 x19 : Int32} (h : x18 = 0 ∨ ¬ x12 = 0) : tc_cov p1 p4 x12 x18 x19 = 0 := by
  unfold tc_cov
  by_cases c : x18 = 0
  · rw [if_pos c]
  · rw [if_neg c, if_neg (h.resolve_left c)]
theorem tc_leafY {p : Nat} (hp : p < 2) : tc_leaf (nI p) = 1 := by
  have h : p = 0 ∨ p = 1 := by omega
  rcases h with h | h <;> subst h <;> decide
theorem tc_leafN0 {x : Int32} (h : x < 0 ∨ 5 < x) : tc_leaf x = 0 := by
  unfold tc_leaf
  rw [if_neg, if_neg]
  · intro e
    rw [e] at h
    exact absurd h (by decide)
  · intro e
    rw [e] at h
    exact absurd h (by decide)
theorem tc_pC {k l c o g : Nat} {x12 x18 p1 p2 p3 p4 : Int32} (hpre : tc_pre k l c o g ru a3 a4 a5 a6) (hF : tc_F k l c o x12 x18 p1 p2 p3)
    (ht : (th = 0 ∧ tc_leaf p4 = 0) ∨ ∃ p, p < 2 ∧ p4 = nI p ∧ th = nI 1 ∧ a7 0 = nI p ∧ a8 0 = -1 ∧ a10 0 = 0 ∧ a11 0 = 0) :
    tc_okC p2 (tc_sC p2 p3 (tc_cov p1 p4 x12 x18 (tc_leaf p4))) (tc_sS x18 x12) (dr, ph, ru, no, th, 0, en, sc, wh, tm, tl, co, wo, fs, wf, ws, a1, a2, a3, a4, a5, a6, a7, a8, a9, a10, a11, a12, a13, a14, a15, a16, a17, a18, a19, a20, a21, a22, a23, a24, a25, a26, a27, a28, a29, a30, a31) := by
  intro post H
  by_cases h0 : p2 < 0
  · have e : ∀ x, tc_sC p2 p3 x = -1 := fun x => if_pos h0
    rw [e] at H
    exact tc_costB (Or.inl h0) (H _ (tc_pS0 hpre hF))
  · by_cases h3 : 3 < p2
    · have e : ∀ x, tc_sC p2 p3 x = -1 := fun x => by
        unfold tc_sC
        rw [if_neg h0, if_neg (tc_nle h3)]
      rw [e] at H
      exact tc_costB (Or.inr h3) (H _ (tc_pS0 hpre hF))
    · have e : ∀ x, tc_sC p2 p3 x = if x = 0 then -4 else p3 := fun x => by
        unfold tc_sC
        rw [if_neg h0, if_pos (tc_ngt h3)]
      rw [e] at H
      obtain ⟨m, hm, em⟩ := nI_of2 (M := 3) (n := 3) (by decide) h0 (tc_ngt h3)
      subst em
      rcases ht with ⟨hth, hlf⟩ | ⟨p, hp, ep, hth, h7, h8, h10, h11⟩
      · rw [hlf, tc_cov0, if_pos rfl] at H
        subst hth
        exact tc_cost0 (by omega) (H _ (tc_pS0 hpre hF))
      · subst hth
        have hml : k = 3 → m = l := by
          intro hk
          rcases hF with ⟨_, _, _, _, e2, _⟩ | ⟨z, _⟩
          · have hl : l < 4 := by
              rcases hpre with ⟨z, _⟩ | ⟨_, z, _⟩
              · omega
              · exact z
            exact (nI_eq (by omega) (by omega)).mp e2
          · exact absurd hk z
        refine tc_cost1 (by omega) hml hpre hp h7 h8 h10 h11 (fun nE b12 b13 b14 b15 b16 b17 b18 b19 b20 b22 b24 b25 b30 b31 hin h18 r hr => ?_)
        have er : r = if tc_cov p1 p4 x12 x18 (tc_leaf p4) = 0 then -4 else p3 := by
          rw [hr]
          rcases hF with ⟨hk, n18, z12, e1, _, e3⟩ | ⟨hk, hz⟩
          · have ho : o < 2 := tc_pre3 hpre hk
            have ecov : tc_cov p1 p4 x12 x18 (tc_leaf p4) = if nI o = nI p then 1 else 0 := by
              rw [ep, tc_leafY hp]
              unfold tc_cov
              rw [if_neg n18, if_pos z12, if_neg (show ¬ (1 : Int32) = 0 by decide), e1]
            rw [ecov, e3]
            by_cases op : o = p
            · rw [if_pos (tc_hitI ⟨hk, op⟩), op, if_pos rfl, if_neg (show ¬ (1 : Int32) = 0 by decide)]
            · rw [if_neg (fun z => op (tc_hitT z).2), if_neg (fun z => op ((nI_eq (by omega) (by omega)).mp z)), if_pos rfl]
          · rw [if_neg (fun z => hk (tc_hitT z).1), tc_covN hz, if_pos rfl]
        rw [er]
        exact H _ (tc_pS1 hin hp h18 hF)
theorem tc_pT {k l c o g : Nat} {x12 x18 p1 p2 p3 p4 : Int32} (hpre : tc_pre k l c o g ru a3 a4 a5 a6) (hF : tc_F k l c o x12 x18 p1 p2 p3) :
    tc_okT p4 (tc_sT p4 (tc_leaf p4)) p2 (tc_sC p2 p3 (tc_cov p1 p4 x12 x18 (tc_leaf p4))) (tc_sS x18 x12) (dr, ph, ru, 0, 0, 0, en, sc, wh, tm, tl, co, wo, fs, wf, ws, a1, a2, a3, a4, a5, a6, a7, a8, a9, a10, a11, a12, a13, a14, a15, a16, a17, a18, a19, a20, a21, a22, a23, a24, a25, a26, a27, a28, a29, a30, a31) := by
  intro post H
  by_cases h0 : p4 < 0
  · have e : tc_sT p4 (tc_leaf p4) = -1 := if_pos h0
    rw [e] at H
    exact tc_treeB (Or.inl h0) (H _ (tc_pC hpre hF (Or.inl ⟨rfl, tc_leafN0 (Or.inl h0)⟩)))
  · by_cases h5 : 5 < p4
    · have e : tc_sT p4 (tc_leaf p4) = -1 := by
        unfold tc_sT
        rw [if_neg h0, if_neg (tc_nle h5)]
      rw [e] at H
      exact tc_treeB (Or.inr h5) (H _ (tc_pC hpre hF (Or.inl ⟨rfl, tc_leafN0 (Or.inr h5)⟩)))
    · obtain ⟨m, hm, em⟩ := nI_of2 (M := 5) (n := 5) (by decide) h0 (tc_ngt h5)
      subst em
      have hc : m = 0 ∨ m = 1 ∨ m = 2 ∨ m = 3 ∨ m = 4 ∨ m = 5 := by omega
      rcases hc with h | h | h | h | h | h
      · subst h
        rw [show tc_sT (nI 0) (tc_leaf (nI 0)) = 1 by decide] at H
        exact tc_treeL0 (fun b7 b8 b9 b10 b11 h7 h8 h10 h11 => H _ (tc_pC hpre hF (Or.inr ⟨0, by omega, rfl, rfl, h7, h8, h10, h11⟩)))
      · subst h
        rw [show tc_sT (nI 1) (tc_leaf (nI 1)) = 1 by decide] at H
        exact tc_treeL1 (fun b7 b8 b9 b10 b11 h7 h8 h10 h11 => H _ (tc_pC hpre hF (Or.inr ⟨1, by omega, rfl, rfl, h7, h8, h10, h11⟩)))
      · subst h
        rw [show tc_sT (nI 2) (tc_leaf (nI 2)) = -3 by decide] at H
        exact tc_treeF2 (H _ (tc_pC hpre hF (Or.inl ⟨rfl, by decide⟩)))
      · subst h
        rw [show tc_sT (nI 3) (tc_leaf (nI 3)) = -3 by decide] at H
        exact tc_treeF3 (H _ (tc_pC hpre hF (Or.inl ⟨rfl, by decide⟩)))
      · subst h
        rw [show tc_sT (nI 4) (tc_leaf (nI 4)) = -3 by decide] at H
        exact tc_treeF4 (H _ (tc_pC hpre hF (Or.inl ⟨rfl, by decide⟩)))
      · subst h
        rw [show tc_sT (nI 5) (tc_leaf (nI 5)) = -3 by decide] at H
        exact tc_treeF5 (H _ (tc_pC hpre hF (Or.inl ⟨rfl, by decide⟩)))
/-- what goal and pattern leave: K the kind that a rule will have -/
def tc_dk (K g o : Nat) (x12 x15 al p1 dr ph : Int32) (a1 : Nat → Int32) : Prop :=
  (K = 0 ∧ ¬ x15 = 1 ∧ ¬ ph = 1) ∨
  (K = 1 ∧ ¬ x12 = 0 ∧ x15 = 1 ∧ ¬ al = 0 ∧ g < 4 ∧ ph = 1 ∧ dr = nI 1 ∧ a1 0 = (-1) - nI g) ∨
  (K = 2 ∧ ¬ x12 = 0 ∧ x15 = 1 ∧ al = 0 ∧ g < 4 ∧ 2 ≤ o ∧ o < 4 ∧ ph = 1 ∧ dr = nI 2 ∧ a1 0 = (-1) - nI g ∧ a1 1 = nI o) ∨
  (K = 3 ∧ x12 = 0 ∧ x15 = 1 ∧ al = 0 ∧ o < 2 ∧ p1 = nI o ∧ ph = 1 ∧ dr = nI 1 ∧ a1 0 = nI o)
theorem tc_pR {K g o : Nat} {x12 x15 al p1 p2 p3 p4 : Int32} (hd : tc_dk K g o x12 x15 al p1 dr ph a1) :
    tc_okR p2 p3 (tc_sR (tc_fits p2 p3) x15 (tc_added (tc_fits p2 p3) x15 al p3)) p4 (tc_sT p4 (tc_leaf p4)) (tc_sC p2 p3 (tc_cov p1 p4 x12 (tc_added (tc_fits p2 p3) x15 al p3) (tc_leaf p4))) (tc_sS (tc_added (tc_fits p2 p3) x15 al p3) x12)
      (dr, ph, 0, 0, 0, 0, en, sc, wh, tm, tl, co, wo, fs, wf, ws, a1, a2, a3, a4, a5, a6, a7, a8, a9, a10, a11, a12, a13, a14, a15, a16, a17, a18, a19, a20, a21, a22, a23, a24, a25, a26, a27, a28, a29, a30, a31) := by
  intro post H
  have bad : tc_fits p2 p3 = 0 → post (-1) (dr, ph, 0, 0, 0, 0, en, sc, wh, tm, tl, co, wo, fs, wf, ws, a1, a2, a3, a4, a5, a6, a7, a8, a9, a10, a11, a12, a13, a14, a15, a16, a17, a18, a19, a20, a21, a22, a23, a24, a25, a26, a27, a28, a29, a30, a31) := by
    intro ef
    have ea : tc_added 0 x15 al p3 = 0 := if_pos rfl
    have er : tc_sR 0 x15 0 = -1 := if_pos rfl
    rw [ef, ea, er] at H
    exact H _ (tc_pT (k := 0) (l := 0) (c := 0) (o := 0) (g := 0) (Or.inl ⟨rfl, rfl⟩) (Or.inr ⟨by omega, Or.inl rfl⟩))
  by_cases h0 : p2 < 0
  · exact tc_ruleG (Or.inl h0) (bad (if_pos h0))
  by_cases h3 : 3 < p2
  · exact tc_ruleG (Or.inr h3) (bad (by unfold tc_fits; rw [if_neg h0, if_pos h3]))
  obtain ⟨m, hm, em⟩ := nI_of2 (M := 3) (n := 3) (by decide) h0 (tc_ngt h3)
  by_cases g0 : p3 < 0
  · rw [em] at h0 h3 bad ⊢
    exact tc_ruleC (by omega) (Or.inl g0) (bad (by unfold tc_fits; rw [if_neg h0, if_neg h3, if_pos g0]))
  by_cases g9 : 9 < p3
  · rw [em] at h0 h3 bad ⊢
    exact tc_ruleC (by omega) (Or.inr g9) (bad (by unfold tc_fits; rw [if_neg h0, if_neg h3, if_neg g0, if_pos g9]))
  have ef : tc_fits p2 p3 = 1 := by unfold tc_fits; rw [if_neg h0, if_neg h3, if_neg g0, if_neg g9]
  obtain ⟨c, hc, ec⟩ := nI_of2 (M := 9) (n := 9) (by decide) g0 (tc_ngt g9)
  rw [ef] at H
  clear bad
  subst em ec
  rcases hd with ⟨_, n15, nph⟩ | ⟨_, n12, e15, nal, hg, e1, e2, ha⟩ | ⟨_, n12, e15, eal, hg, ho2, ho4, e1, e2, ha, hb⟩ | ⟨_, z12, e15, eal, ho, ep1, e1, e2, ha⟩
  · have ea : tc_added 1 x15 al (nI c) = 0 := by unfold tc_added; rw [if_neg (by decide), if_neg n15]
    have er : tc_sR 1 x15 0 = -3 := by unfold tc_sR; rw [if_neg (by decide), if_neg n15]
    rw [ea, er] at H
    exact tc_ruleH (by omega) hc nph (H _ (tc_pT (k := 0) (l := 0) (c := 0) (o := 0) (g := 0) (Or.inl ⟨rfl, rfl⟩) (Or.inr ⟨by omega, Or.inl rfl⟩)))
  · subst e1 e2
    by_cases c0 : c = 0
    · subst c0
      have ea : tc_added 1 x15 al (nI 0) = 0 := by unfold tc_added; rw [if_neg (by decide), if_pos e15, if_neg nal, if_pos (by decide)]
      have er : tc_sR 1 x15 0 = -1 := by unfold tc_sR; rw [if_neg (by decide), if_pos e15, if_pos rfl]
      rw [ea, er] at H
      have na : ¬ 0 ≤ a1 0 := by
        rw [ha]
        intro z
        have t := (tc_neg hg).2
        rw [Int32.le_iff_toInt_le] at z
        rw [Int32.lt_iff_toInt_lt] at t
        omega
      exact tc_rule1 (by omega) na (H _ (tc_pT (k := 0) (l := 0) (c := 0) (o := 0) (g := 0) (Or.inl ⟨rfl, rfl⟩) (Or.inr ⟨by omega, Or.inl rfl⟩)))
    · have ea : tc_added 1 x15 al (nI c) = 1 := by unfold tc_added; rw [if_neg (by decide), if_pos e15, if_neg nal, if_neg (nI_ne0 (by omega) (by omega))]
      have er : tc_sR 1 x15 1 = 0 := by unfold tc_sR; rw [if_neg (by decide), if_pos e15, if_neg (by decide)]
      rw [ea, er] at H
      refine tc_ruleA (d := 1) (by omega) hc (by omega) (Or.inl c0) (fun r b3 b4 b5 b6 hr h3' h4' h5' h6' => ?_)
      rw [hr]
      exact H _ (tc_pT (k := 1) (l := m) (c := c) (o := 0) (g := g) (Or.inr ⟨rfl, by omega, hc, h3', h4', Or.inl ⟨rfl, hg, h5', by rw [h6' 0 (by omega), ha]⟩⟩) (Or.inr ⟨by omega, Or.inr n12⟩))
  · subst e1 e2
    have ea : tc_added 1 x15 al (nI c) = 1 := by unfold tc_added; rw [if_neg (by decide), if_pos e15, if_pos eal]
    have er : tc_sR 1 x15 1 = 0 := by unfold tc_sR; rw [if_neg (by decide), if_pos e15, if_neg (by decide)]
    rw [ea, er] at H
    refine tc_ruleA (d := 2) (by omega) hc (by omega) (Or.inr (Or.inr (by omega))) (fun r b3 b4 b5 b6 hr h3' h4' h5' h6' => ?_)
    rw [hr]
    exact H _ (tc_pT (k := 2) (l := m) (c := c) (o := o) (g := g) (Or.inr ⟨rfl, by omega, hc, h3', h4', Or.inr (Or.inl ⟨rfl, hg, ho2, ho4, h5', by rw [h6' 0 (by omega), ha], by rw [h6' 1 (by omega), hb]⟩)⟩) (Or.inr ⟨by omega, Or.inr n12⟩))
  · subst e1 e2
    have ea : tc_added 1 x15 al (nI c) = 1 := by unfold tc_added; rw [if_neg (by decide), if_pos e15, if_pos eal]
    have er : tc_sR 1 x15 1 = 0 := by unfold tc_sR; rw [if_neg (by decide), if_pos e15, if_neg (by decide)]
    rw [ea, er] at H
    refine tc_ruleA (d := 1) (by omega) hc (by omega) (Or.inr (Or.inl (by rw [ha]; exact nI_pos' (by omega)))) (fun r b3 b4 b5 b6 hr h3' h4' h5' h6' => ?_)
    rw [hr]
    exact H _ (tc_pT (k := 3) (l := m) (c := c) (o := o) (g := 0) (Or.inr ⟨rfl, by omega, hc, h3', h4', Or.inr (Or.inr ⟨rfl, ho, h5', by rw [h6' 0 (by omega), ha]⟩)⟩) (Or.inl ⟨rfl, by decide, z12, ep1, rfl, rfl⟩))
theorem tc_dueB {x y : Int32} (h : x < 0 ∨ 5 < x) : tc_due x y = -1 := by
  unfold tc_due
  by_cases h0 : x < 0
  · rw [if_pos h0]
  · rw [if_neg h0, if_pos (h.resolve_left h0)]
theorem tc_pP0 {p1 p2 p3 p4 : Int32} :
    tc_okP p1 (tc_due p1 0) p2 p3 (tc_sR (tc_fits p2 p3) (tc_many 0 (tc_due p1 0)) (tc_added (tc_fits p2 p3) (tc_many 0 (tc_due p1 0)) (tc_alone 0 (tc_due p1 0)) p3)) p4 (tc_sT p4 (tc_leaf p4))
      (tc_sC p2 p3 (tc_cov p1 p4 0 (tc_added (tc_fits p2 p3) (tc_many 0 (tc_due p1 0)) (tc_alone 0 (tc_due p1 0)) p3) (tc_leaf p4))) (tc_sS (tc_added (tc_fits p2 p3) (tc_many 0 (tc_due p1 0)) (tc_alone 0 (tc_due p1 0)) p3) 0)
      (0, 0, 0, 0, 0, 0, en, sc, wh, tm, tl, co, wo, fs, wf, ws, a1, a2, a3, a4, a5, a6, a7, a8, a9, a10, a11, a12, a13, a14, a15, a16, a17, a18, a19, a20, a21, a22, a23, a24, a25, a26, a27, a28, a29, a30, a31) := by
  intro post H
  have bad : p1 < 0 ∨ 5 < p1 → wpX_pattern post (0, 0, 0, 0, 0, 0, en, sc, wh, tm, tl, co, wo, fs, wf, ws, a1, a2, a3, a4, a5, a6, a7, a8, a9, a10, a11, a12, a13, a14, a15, a16, a17, a18, a19, a20, a21, a22, a23, a24, a25, a26, a27, a28, a29, a30, a31) p1 := by
    intro h
    rw [tc_dueB h] at H
    exact tc_patB h (H _ (tc_pR (K := 0) (g := 0) (o := 0) (Or.inl ⟨rfl, by decide, by decide⟩)))
  by_cases h0 : p1 < 0
  · exact bad (Or.inl h0)
  by_cases h5 : 5 < p1
  · exact bad (Or.inr h5)
  clear bad
  obtain ⟨m, hm, em⟩ := nI_of2 (M := 5) (n := 5) (by decide) h0 (tc_ngt h5)
  subst em
  have hc : m = 0 ∨ m = 1 ∨ m = 2 ∨ m = 3 ∨ m = 4 ∨ m = 5 := by omega
  rcases hc with h | h | h | h | h | h
  · subst h
    rw [show tc_due (nI 0) 0 = 1 by decide] at H
    exact tc_patL00 (fun b1 b2 hb => H _ (tc_pR (K := 3) (g := 0) (o := 0) (Or.inr (Or.inr (Or.inr ⟨rfl, rfl, by decide, by decide, by omega, rfl, rfl, rfl, hb⟩)))))
  · subst h
    rw [show tc_due (nI 1) 0 = 1 by decide] at H
    exact tc_patL10 (fun b1 b2 hb => H _ (tc_pR (K := 3) (g := 0) (o := 1) (Or.inr (Or.inr (Or.inr ⟨rfl, rfl, by decide, by decide, by omega, rfl, rfl, rfl, hb⟩)))))
  · subst h
    rw [show tc_due (nI 2) 0 = -3 by decide] at H
    exact tc_patF20 (H _ (tc_pR (K := 0) (g := 0) (o := 0) (Or.inl ⟨rfl, by decide, by decide⟩)))
  · subst h
    rw [show tc_due (nI 3) 0 = -3 by decide] at H
    exact tc_patF30 (H _ (tc_pR (K := 0) (g := 0) (o := 0) (Or.inl ⟨rfl, by decide, by decide⟩)))
  · subst h
    rw [show tc_due (nI 4) 0 = -3 by decide] at H
    exact tc_patF40 (H _ (tc_pR (K := 0) (g := 0) (o := 0) (Or.inl ⟨rfl, by decide, by decide⟩)))
  · subst h
    rw [show tc_due (nI 5) 0 = -3 by decide] at H
    exact tc_patF50 (H _ (tc_pR (K := 0) (g := 0) (o := 0) (Or.inl ⟨rfl, by decide, by decide⟩)))
theorem tc_pP1 {g : Nat} {p1 p2 p3 p4 : Int32} (hg : g < 4) (ha : a1 0 = (-1) - nI g) :
    tc_okP p1 (tc_due p1 1) p2 p3 (tc_sR (tc_fits p2 p3) (tc_many 1 (tc_due p1 1)) (tc_added (tc_fits p2 p3) (tc_many 1 (tc_due p1 1)) (tc_alone 1 (tc_due p1 1)) p3)) p4 (tc_sT p4 (tc_leaf p4))
      (tc_sC p2 p3 (tc_cov p1 p4 1 (tc_added (tc_fits p2 p3) (tc_many 1 (tc_due p1 1)) (tc_alone 1 (tc_due p1 1)) p3) (tc_leaf p4))) (tc_sS (tc_added (tc_fits p2 p3) (tc_many 1 (tc_due p1 1)) (tc_alone 1 (tc_due p1 1)) p3) 1)
      (1, 1, 0, 0, 0, 0, en, sc, wh, tm, tl, co, wo, fs, wf, ws, a1, a2, a3, a4, a5, a6, a7, a8, a9, a10, a11, a12, a13, a14, a15, a16, a17, a18, a19, a20, a21, a22, a23, a24, a25, a26, a27, a28, a29, a30, a31) := by
  intro post H
  have bad : p1 < 0 ∨ 5 < p1 → wpX_pattern post (1, 1, 0, 0, 0, 0, en, sc, wh, tm, tl, co, wo, fs, wf, ws, a1, a2, a3, a4, a5, a6, a7, a8, a9, a10, a11, a12, a13, a14, a15, a16, a17, a18, a19, a20, a21, a22, a23, a24, a25, a26, a27, a28, a29, a30, a31) p1 := by
    intro h
    rw [tc_dueB h] at H
    exact tc_patB h (H _ (tc_pR (K := 1) (g := g) (o := 0) (Or.inr (Or.inl ⟨rfl, by decide, by decide, by decide, hg, rfl, rfl, ha⟩))))
  by_cases h0 : p1 < 0
  · exact bad (Or.inl h0)
  by_cases h5 : 5 < p1
  · exact bad (Or.inr h5)
  clear bad
  obtain ⟨m, hm, em⟩ := nI_of2 (M := 5) (n := 5) (by decide) h0 (tc_ngt h5)
  subst em
  have hc : m = 0 ∨ m = 1 ∨ m = 2 ∨ m = 3 ∨ m = 4 ∨ m = 5 := by omega
  rcases hc with h | h | h | h | h | h
  · subst h
    rw [show tc_due (nI 0) 1 = 2 by decide] at H
    exact tc_patL01 (fun b1 b2 hb => H _ (tc_pR (K := 0) (g := 0) (o := 0) (Or.inl ⟨rfl, by decide, by decide⟩)))
  · subst h
    rw [show tc_due (nI 1) 1 = 2 by decide] at H
    exact tc_patL11 (fun b1 b2 hb => H _ (tc_pR (K := 0) (g := 0) (o := 0) (Or.inl ⟨rfl, by decide, by decide⟩)))
  · subst h
    rw [show tc_due (nI 2) 1 = 1 by decide] at H
    exact tc_patU2 (fun b1 hb0 hb1 => H _ (tc_pR (K := 2) (g := g) (o := 2) (Or.inr (Or.inr (Or.inl ⟨rfl, by decide, by decide, by decide, hg, by omega, by omega, rfl, rfl, by rw [hb0, ha], hb1⟩)))))
  · subst h
    rw [show tc_due (nI 3) 1 = 1 by decide] at H
    exact tc_patU3 (fun b1 hb0 hb1 => H _ (tc_pR (K := 2) (g := g) (o := 3) (Or.inr (Or.inr (Or.inl ⟨rfl, by decide, by decide, by decide, hg, by omega, by omega, rfl, rfl, by rw [hb0, ha], hb1⟩)))))
  · subst h
    rw [show tc_due (nI 4) 1 = -3 by decide] at H
    exact tc_patF41 (H _ (tc_pR (K := 1) (g := g) (o := 0) (Or.inr (Or.inl ⟨rfl, by decide, by decide, by decide, hg, rfl, rfl, ha⟩))))
  · subst h
    rw [show tc_due (nI 5) 1 = -3 by decide] at H
    exact tc_patF51 (H _ (tc_pR (K := 1) (g := g) (o := 0) (Or.inr (Or.inl ⟨rfl, by decide, by decide, by decide, hg, rfl, rfl, ha⟩))))
theorem tc_pG {p0 p1 p2 p3 p4 : Int32} :
    tc_okG p0 (tc_sG (tc_f p0)) p1 (tc_due p1 (tc_f p0)) p2 p3 (tc_sR (tc_fits p2 p3) (tc_many (tc_f p0) (tc_due p1 (tc_f p0))) (tc_added (tc_fits p2 p3) (tc_many (tc_f p0) (tc_due p1 (tc_f p0))) (tc_alone (tc_f p0) (tc_due p1 (tc_f p0))) p3)) p4 (tc_sT p4 (tc_leaf p4))
      (tc_sC p2 p3 (tc_cov p1 p4 (tc_f p0) (tc_added (tc_fits p2 p3) (tc_many (tc_f p0) (tc_due p1 (tc_f p0))) (tc_alone (tc_f p0) (tc_due p1 (tc_f p0))) p3) (tc_leaf p4))) (tc_sS (tc_added (tc_fits p2 p3) (tc_many (tc_f p0) (tc_due p1 (tc_f p0))) (tc_alone (tc_f p0) (tc_due p1 (tc_f p0))) p3) (tc_f p0))
      (0, 0, 0, 0, 0, 0, en, sc, wh, tm, tl, co, wo, fs, wf, ws, a1, a2, a3, a4, a5, a6, a7, a8, a9, a10, a11, a12, a13, a14, a15, a16, a17, a18, a19, a20, a21, a22, a23, a24, a25, a26, a27, a28, a29, a30, a31) := by
  intro post H
  by_cases h0 : p0 < 0
  · rw [show tc_f p0 = 0 from if_pos h0, show tc_sG 0 = -1 by decide] at H
    exact tc_goalN (Or.inl h0) (H _ tc_pP0)
  by_cases h3 : 3 < p0
  · rw [show tc_f p0 = 0 by unfold tc_f; rw [if_neg h0, if_pos h3], show tc_sG 0 = -1 by decide] at H
    exact tc_goalN (Or.inr h3) (H _ tc_pP0)
  rw [show tc_f p0 = 1 by unfold tc_f; rw [if_neg h0, if_neg h3], show tc_sG 1 = 1 by decide] at H
  obtain ⟨m, hm, em⟩ := nI_of2 (M := 3) (n := 3) (by decide) h0 (tc_ngt h3)
  subst em
  exact tc_goalY (by omega) (fun b1 b2 hb => H _ (tc_pP1 (by omega) hb))
theorem tc_lawOf (p0 p1 p2 p3 p4 : Int32) : wpL_lawOf (fun r _ => r = 1) 32 8137 () p0 p1 p2 p3 p4 := by
  unfold wpL_lawOf
  refine ⟨by decide, by decide, 31, 8090, by decide, by decide, ?_⟩
  unfold wpX_init
  refine ⟨by decide, by decide, by decide, by decide, by decide, by decide, by decide, by decide, by decide, by decide, by decide, by decide, by decide, by decide, by decide, by decide, by decide, by decide, by decide, by decide, by decide, by decide, by decide, by decide, by decide, by decide, by decide, by decide, by decide, by decide, by decide, by decide, by decide, by decide, by decide, by decide, by decide, by decide, by decide, by decide, by decide, by decide, by decide, by decide, by decide, by decide, by decide, by decide, by decide, by decide, by decide, by decide, by decide, by decide, by decide, by decide, by decide, by decide, by decide, by decide, by decide, by decide, ?_⟩
  refine tc_pG (p0 := p0) (p1 := p1) (p2 := p2) (p3 := p3) (p4 := p4) _ (fun u h => ?_)
  obtain ⟨y1, y2, y3, y4, y5, y6, y7, y8, y9, y10, y11, y12, y13, y14, y15, y16, y17, y18, y19, y20, y21, y22, y23, y24, y25, y26, y27, y28, y29, y30, y31, y32, y33, y34, y35, y36, y37, y38, y39, y40, y41, y42, y43, y44, y45, y46, y47⟩ := u
  refine h _ (fun u h => ?_)
  obtain ⟨z1, z2, z3, z4, z5, z6, z7, z8, z9, z10, z11, z12, z13, z14, z15, z16, z17, z18, z19, z20, z21, z22, z23, z24, z25, z26, z27, z28, z29, z30, z31, z32, z33, z34, z35, z36, z37, z38, z39, z40, z41, z42, z43, z44, z45, z46, z47⟩ := u
  refine h _ (fun u h => ?_)
  obtain ⟨y1, y2, y3, y4, y5, y6, y7, y8, y9, y10, y11, y12, y13, y14, y15, y16, y17, y18, y19, y20, y21, y22, y23, y24, y25, y26, y27, y28, y29, y30, y31, y32, y33, y34, y35, y36, y37, y38, y39, y40, y41, y42, y43, y44, y45, y46, y47⟩ := u
  refine h _ (fun u h => ?_)
  obtain ⟨z1, z2, z3, z4, z5, z6, z7, z8, z9, z10, z11, z12, z13, z14, z15, z16, z17, z18, z19, z20, z21, z22, z23, z24, z25, z26, z27, z28, z29, z30, z31, z32, z33, z34, z35, z36, z37, z38, z39, z40, z41, z42, z43, z44, z45, z46, z47⟩ := u
  refine h _ (fun u h => ?_)
  obtain ⟨y1, y2, y3, y4, y5, y6, y7, y8, y9, y10, y11, y12, y13, y14, y15, y16, y17, y18, y19, y20, y21, y22, y23, y24, y25, y26, y27, y28, y29, y30, y31, y32, y33, y34, y35, y36, y37, y38, y39, y40, y41, y42, y43, y44, y45, y46, y47⟩ := u
  refine h _ (fun u => ?_)
  obtain ⟨z1, z2, z3, z4, z5, z6, z7, z8, z9, z10, z11, z12, z13, z14, z15, z16, z17, z18, z19, z20, z21, z22, z23, z24, z25, z26, z27, z28, z29, z30, z31, z32, z33, z34, z35, z36, z37, z38, z39, z40, z41, z42, z43, z44, z45, z46, z47⟩ := u
  exact tc_wEnd rfl rfl rfl rfl rfl rfl rfl
theorem tc_cell {post : Int32 → Prop} {L i : Nat} {xs : Nat → Int32} (hL : L ≤ 5) (hi : i < 5) (H : ∀ r, post r) : wpL_cellAt post L xs () (nI i) :=
  pk_le L i (fun _ => H 0) (fun z => ⟨pk_in i L z, H _⟩)
end
theorem i_vc (xs : Nat → Int32) (L : Nat) (hL : L ≤ 5) : wpL_law (fun r => r = 1) L xs :=
  tc_cell (i := 0) hL (by omega) (fun r1 => tc_cell (i := 1) hL (by omega) (fun r2 => tc_cell (i := 2) hL (by omega) (fun r3 => tc_cell (i := 3) hL (by omega) (fun r4 => tc_cell (i := 4) hL (by omega) (fun r5 => ⟨32, 8137, by omega, by omega, tc_lawOf r1 r2 r3 r4 r5⟩)))))
end
