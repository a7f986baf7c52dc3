section
/-- a flag as an int -/
def cl_b (b : Bool) : Int32 := if b then 1 else 0
theorem cl_b0 {b : Bool} (h : b = false) : cl_b b = 0 := by subst h; rfl
theorem cl_b1 {b : Bool} (h : b = true) : cl_b b = 1 := by subst h; rfl
theorem cl_binj {b d : Bool} (h : cl_b b = cl_b d) : b = d := by
  revert h; revert b d; decide
theorem cl_br {x : Int32} {b : Bool} {A B : Prop} (hx : x = cl_b b) (f : b = false → A) (g : b = true → B) : (x = 0 → A) ∧ (¬ x = 0 → B) := by
  subst hx
  cases b
  · exact br_t rfl (f rfl)
  · exact br_f (by decide) (g rfl)
theorem cl_br1 {x : Int32} {b : Bool} {A B : Prop} (hx : x = cl_b b) (g : b = true → A) (f : b = false → B) : (x = 1 → A) ∧ (¬ x = 1 → B) := by
  subst hx
  cases b
  · exact br_f (by decide) (f rfl)
  · exact br_t rfl (g rfl)
/-- the set of those below i that p picks, as a mask -/
def cl_mk (p : Nat → Bool) : Nat → Int32
  | 0 => 0
  | i + 1 => if p i then cl_mk p i ||| ((1 : Int32) <<< (nI i &&& 31)) else cl_mk p i
theorem cl_mk_t {p : Nat → Bool} {i : Nat} (h : p i = true) : cl_mk p (i + 1) = cl_mk p i ||| ((1 : Int32) <<< (nI i &&& 31)) := if_pos h
theorem cl_mk_f {p : Nat → Bool} {i : Nat} (h : p i = false) : cl_mk p (i + 1) = cl_mk p i := if_neg (by rw [h]; decide)
theorem cl_mk_c {p q : Nat → Bool} (k : Nat) (h : ∀ j, j < k → p j = q j) : cl_mk p k = cl_mk q k := by
  induction k with
  | zero => rfl
  | succ k ih =>
    have e := ih (fun j hj => h j (by omega))
    have e2 := h k (by omega)
    unfold cl_mk
    rw [e, e2]
def cl_f5 (b0 b1 b2 b3 b4 : Bool) (j : Nat) : Bool := if j = 0 then b0 else if j = 1 then b1 else if j = 2 then b2 else if j = 3 then b3 else b4
def cl_m5 (b0 b1 b2 b3 b4 : Bool) : Int32 := cl_mk (cl_f5 b0 b1 b2 b3 b4) 5
theorem cl_f5p (p : Nat → Bool) {j : Nat} (hj : j < 5) : cl_f5 (p 0) (p 1) (p 2) (p 3) (p 4) j = p j := by
  rcases (by omega : j = 0 ∨ j = 1 ∨ j = 2 ∨ j = 3 ∨ j = 4) with e | e | e | e | e <;> subst e <;> rfl
theorem cl_mk5 (p : Nat → Bool) : cl_mk p 5 = cl_m5 (p 0) (p 1) (p 2) (p 3) (p 4) := cl_mk_c 5 (fun _ hj => (cl_f5p p hj).symm)
theorem cl_bit5 : ∀ b0 b1 b2 b3 b4 : Bool, ∀ i, i < 5 → (cl_m5 b0 b1 b2 b3 b4 >>> (nI i &&& 31)) &&& 1 = cl_b (cl_f5 b0 b1 b2 b3 b4 i) := by decide +kernel
theorem cl_bit (p : Nat → Bool) {i : Nat} (hi : i < 5) : (cl_mk p 5 >>> (nI i &&& 31)) &&& 1 = cl_b (p i) := by
  rw [cl_mk5, cl_bit5 _ _ _ _ _ i hi, cl_f5p p hi]
theorem cl_and5 : ∀ b0 b1 b2 b3 b4 d0 d1 d2 d3 d4 : Bool, cl_m5 b0 b1 b2 b3 b4 &&& cl_m5 d0 d1 d2 d3 d4 = cl_m5 (b0 && d0) (b1 && d1) (b2 && d2) (b3 && d3) (b4 && d4) := by decide +kernel
theorem cl_and (p q : Nat → Bool) : cl_mk p 5 &&& cl_mk q 5 = cl_mk (fun j => p j && q j) 5 := by
  rw [cl_mk5 p, cl_mk5 q, cl_mk5 (fun j => p j && q j)]
  exact cl_and5 _ _ _ _ _ _ _ _ _ _
theorem cl_andn5 : ∀ b0 b1 b2 b3 b4 d0 d1 d2 d3 d4 : Bool, cl_m5 b0 b1 b2 b3 b4 &&& (cl_m5 d0 d1 d2 d3 d4 ^^^ (-1)) = cl_m5 (b0 && !d0) (b1 && !d1) (b2 && !d2) (b3 && !d3) (b4 && !d4) := by decide +kernel
theorem cl_andn (p q : Nat → Bool) : cl_mk p 5 &&& (cl_mk q 5 ^^^ (-1)) = cl_mk (fun j => p j && !q j) 5 := by
  rw [cl_mk5 p, cl_mk5 q, cl_mk5 (fun j => p j && !q j)]
  exact cl_andn5 _ _ _ _ _ _ _ _ _ _
theorem cl_clr5 : ∀ b0 b1 b2 b3 b4 : Bool, ∀ i, i < 5 → cl_m5 b0 b1 b2 b3 b4 &&& (((1 : Int32) <<< (nI i &&& 31)) ^^^ (-1)) = cl_m5 (b0 && !(0 == i)) (b1 && !(1 == i)) (b2 && !(2 == i)) (b3 && !(3 == i)) (b4 && !(4 == i)) := by decide +kernel
theorem cl_clr (p : Nat → Bool) {i : Nat} (hi : i < 5) : cl_mk p 5 &&& (((1 : Int32) <<< (nI i &&& 31)) ^^^ (-1)) = cl_mk (fun j => p j && !(j == i)) 5 := by
  rw [cl_mk5 p, cl_mk5 (fun j => p j && !(j == i))]
  exact cl_clr5 _ _ _ _ _ i hi
theorem cl_inj {p q : Nat → Bool} (h : cl_mk p 5 = cl_mk q 5) {i : Nat} (hi : i < 5) : p i = q i := by
  have e := cl_bit p hi
  rw [h, cl_bit q hi] at e
  exact (cl_binj e).symm
theorem cl_z5 : ∀ i, i < 5 → ((0 : Int32) >>> (nI i &&& 31)) &&& 1 = 0 := by decide +kernel
theorem cl_nz {p : Nat → Bool} {i : Nat} (hi : i < 5) (h : p i = true) : ¬ cl_mk p 5 = 0 := by
  intro z
  have e := cl_bit p hi
  rw [z, cl_z5 i hi, cl_b1 h] at e
  exact absurd e (by decide)
/-- how many below i p picks -/
def cl_ct (p : Nat → Bool) : Nat → Nat
  | 0 => 0
  | i + 1 => cl_ct p i + (if p i then 1 else 0)
theorem cl_ct_c {p q : Nat → Bool} (k : Nat) (h : ∀ j, j < k → p j = q j) : cl_ct p k = cl_ct q k := by
  induction k with
  | zero => rfl
  | succ k ih =>
    have e := ih (fun j hj => h j (by omega))
    have e2 := h k (by omega)
    unfold cl_ct
    rw [e, e2]
theorem cl_ct_s (p : Nat → Bool) (i : Nat) : nI (cl_ct p i) + cl_b (p i) = nI (cl_ct p (i + 1)) := by
  show nI (cl_ct p i) + cl_b (p i) = nI (cl_ct p i + (if p i then 1 else 0))
  cases p i
  · exact Int32.add_zero _
  · exact nI_1 _
/-- the block's sum behind its first i cells -/
def cl_sm (a6 a7 : Nat → Int32) (k : Nat) : Nat → Int32
  | 0 => 29 + a7 k
  | i + 1 => cl_sm a6 a7 k i * 16777619 + a6 (k * 6 + i)
theorem cl_sm_c {a6 a7 a6' a7' : Nat → Int32} {k k' : Nat} (m : Nat) (h7 : a7' k' = a7 k) (h6 : ∀ i, i < m → a6' (k' * 6 + i) = a6 (k * 6 + i)) : cl_sm a6' a7' k' m = cl_sm a6 a7 k m := by
  induction m with
  | zero => unfold cl_sm; rw [h7]
  | succ m ih =>
    have e := ih (fun j hj => h6 j (by omega))
    have e2 := h6 m (by omega)
    unfold cl_sm
    rw [e, e2]
theorem cl_i4 (j f : Nat) : nI j * 4 + nI f = nI (j * 4 + f) := by
  show nI j * nI 4 + nI f = _
  rw [pk_mul, nI_add]
theorem cl_i6 (k i : Nat) : nI k * 6 + nI i = nI (k * 6 + i) := by
  show nI k * nI 6 + nI i = _
  rw [pk_mul, nI_add]
theorem cl_i40 (j : Nat) : nI j * 4 = nI (j * 4) := by
  show nI j * nI 4 = _
  rw [pk_mul]
theorem cl_i43 (j : Nat) : nI j * 4 + 4 - 1 = nI (j * 4 + 3) := by
  show nI j * nI 4 + nI 4 - nI 1 = _
  rw [pk_mul, nI_add, pk_sub (by omega)]
  rfl
theorem cl_c4 {j f : Nat} (hj : j < 5) (hf : f < 4) : (nI j * 4 + nI f).toNatClampNeg = j * 4 + f := by
  rw [cl_i4, nI_clamp (by omega)]
theorem cl_c6 {k i : Nat} (hk : k < 20) (hi : i < 6) : (nI k * 6 + nI i).toNatClampNeg = k * 6 + i := by
  rw [cl_i6, nI_clamp (by omega)]
theorem cl_n4 {j f : Nat} (hj : j < 5) (hf : f < 4) : vp_in (nI j * 4 + nI f) 20 := pk_in (j * 4 + f) 20 (by omega) (cl_i4 j f)
theorem cl_n6 {k i : Nat} (hk : k < 20) (hi : i < 6) : vp_in (nI k * 6 + nI i) 120 := pk_in (k * 6 + i) 120 (by omega) (cl_i6 k i)
end
section
/-- server j: file 2's block is j * 4 where it has one; no other file has a block -/
def cl_Q (h : Bool) (x : Nat) (y : Int32) (j : Nat) (a4 a5 a6 a7 a8 a9 : Nat → Int32) : Prop :=
  (∀ f, f < 4 → f ≠ 2 → a4 (j * 4 + f) = -1) ∧ a4 (j * 4 + 2) = (if h then nI (j * 4) else -1) ∧ a5 (j * 4 + 2) = nI x ∧ x < 100 ∧ a9 (j * 4) = cl_b h ∧ (h = true → a6 (j * 4 * 6) = y ∧ a8 (j * 4) = cl_sm a6 a7 (j * 4) 6)
/-- the picture -/
def cl_P (n ver : Nat) (e : Bool) (up has : Nat → Bool) (vs : Nat → Nat) (vl : Nat → Int32) (c l : Int32) (a1 a2 a3 a4 a5 a6 a7 a8 a9 : Nat → Int32) : Prop :=
  c = nI n ∧ l = nI ver ∧ ver < 100 ∧ (∀ j, j < 5 → a1 j = cl_b (up j)) ∧ (∀ f, f < 4 → f ≠ 2 → a2 f = 0) ∧ a2 2 = cl_b e ∧ a3 2 = nI ver ∧ (∀ j, j < 5 → cl_Q (has j) (vs j) (vl j) j a4 a5 a6 a7 a8 a9)
/-- server j's replica of file 2 is current -/
def cl_cu (e : Bool) (ver : Nat) (has : Nat → Bool) (vs : Nat → Nat) (j : Nat) : Bool := e && has j && (vs j == ver)
section
variable {n ver : Nat} {e : Bool} {up has : Nat → Bool} {vs : Nat → Nat} {vl : Nat → Int32} {c l : Int32} {a1 a2 a3 a4 a5 a6 a7 a8 a9 : Nat → Int32}
theorem cl_sumOf {post : Int32 → Prop} {k : Nat} (hk : k < 20) (hp : post (cl_sm a6 a7 k 6)) : wpX_sumOf post (c, l, a1, a2, a3, a4, a5, a6, a7, a8, a9) (nI k) := by
  unfold wpX_sumOf
  dsimp only
  refine ⟨pk_in k 20 hk, nm_r (e' := cl_sm a6 a7 k 0) (by rw [nI_clamp (by omega)]; rfl) ?_⟩
  exact pk_loop (fun m i s => wX_sumOf_12 post (nI k) c l a1 a2 a3 a4 a5 a6 a7 a8 a9 m s (nI i)) (fun i s => s = cl_sm a6 a7 k i) 6 0 _ (by omega) rfl
    (fun m s hs => pk_le 6 6 (fun _ => by rw [hs]; exact hp) (fun z => absurd z (by omega)))
    (fun m i s hi hs hw => pk_le 6 i (fun z => absurd z (by omega)) (fun _ => ⟨cl_n6 hk hi, nm_e (nm_r (nI_1 i) (hw _ (by rw [hs, cl_c6 hk hi]; rfl)))⟩))
theorem cl_current2 {post : Int32 → Prop} {j : Nat} (h : cl_P n ver e up has vs vl c l a1 a2 a3 a4 a5 a6 a7 a8 a9) (hj : j < 5) (hp : post (cl_b (cl_cu e ver has vs j))) : wpX_current post (c, l, a1, a2, a3, a4, a5, a6, a7, a8, a9) (nI j) (nI 2) := by
  obtain ⟨_, _, hv, _, _, h2, h3, hq⟩ := h
  obtain ⟨_, q4, q5, qx, _, qh⟩ := hq j hj
  unfold wpX_current
  dsimp only
  rw [cl_c4 hj (show 2 < 4 by omega), nI_clamp (show 2 < 2 ^ 31 by omega), q4, q5, h2, h3]
  refine ⟨cl_n4 hj (by omega), ?_⟩
  unfold cl_cu at hp
  cases hh : has j
  · rw [hh, Bool.and_false, Bool.false_and] at hp
    exact nm_r (e' := -1) rfl (br_t (by decide) hp)
  · rw [hh, Bool.and_true] at hp
    obtain ⟨_, q8⟩ := qh hh
    refine nm_r (e' := nI (j * 4)) rfl (br_f (nI_pos (by omega)) ⟨pk_in 2 4 (by omega), cl_br rfl (fun he => ?_) (fun he => ⟨cl_n4 hj (by omega), pk_in 2 4 (by omega), pk_eq (vs j) ver (fun hx => ?_) (fun hx => ?_)⟩)⟩)
    · rw [he, Bool.false_and] at hp
      exact hp
    · rw [he, hx, Bool.true_and, beq_self_eq_true] at hp
      refine cl_sumOf (by omega) ⟨pk_in (j * 4) 20 (by omega), br_t ?_ hp⟩
      rw [nI_clamp (by omega), q8]
    · rw [he, Bool.true_and, beq_eq_false_iff_ne.mpr hx] at hp
      exact hp
theorem cl_current0 {post : Int32 → Prop} {j f : Nat} (h : cl_P n ver e up has vs vl c l a1 a2 a3 a4 a5 a6 a7 a8 a9) (hj : j < 5) (hf : f < 4) (hc : cl_cu e ver has vs j = false) (hp : post 0) : wpX_current post (c, l, a1, a2, a3, a4, a5, a6, a7, a8, a9) (nI j) (nI f) := by
  by_cases hf2 : f = 2
  · subst hf2
    exact cl_current2 h hj (by rw [hc]; exact hp)
  · obtain ⟨_, _, _, _, _, _, _, hq⟩ := h
    have q := (hq j hj).1 f hf hf2
    unfold wpX_current
    dsimp only
    rw [cl_c4 hj hf, q]
    exact ⟨cl_n4 hj hf, nm_e (br_t (by decide) hp)⟩
theorem cl_upSet {post : Int32 → Prop} (h : cl_P n ver e up has vs vl c l a1 a2 a3 a4 a5 a6 a7 a8 a9) (hp : post (cl_mk up 5)) : wpX_upSet post (c, l, a1, a2, a3, a4, a5, a6, a7, a8, a9) := by
  obtain ⟨_, _, _, h1, _⟩ := h
  unfold wpX_upSet
  dsimp only
  exact pk_loop (fun m i s => wX_upSet_4 post c l a1 a2 a3 a4 a5 a6 a7 a8 a9 m s (nI i)) (fun i s => s = cl_mk up i) 5 0 0 (by omega) rfl
    (fun m s hs => pk_le 5 5 (fun _ => by rw [hs]; exact hp) (fun z => absurd z (by omega)))
    (fun m i s hi hs hw => pk_le 5 i (fun z => absurd z (by omega)) (fun _ => ⟨pk_in i 5 hi, cl_br (b := up i) (by rw [nI_clamp (by omega)]; exact h1 i hi) (fun hu => nm_r (nI_1 i) (hw s (by rw [cl_mk_f hu]; exact hs))) (fun hu => nm_e (nm_r (nI_1 i) (hw _ (by rw [cl_mk_t hu, hs]))))⟩))
theorem cl_currentSet {post : Int32 → Prop} (h : cl_P n ver e up has vs vl c l a1 a2 a3 a4 a5 a6 a7 a8 a9) (hp : post (cl_mk (cl_cu e ver has vs) 5)) : wpX_currentSet post (c, l, a1, a2, a3, a4, a5, a6, a7, a8, a9) 2 := by
  unfold wpX_currentSet
  dsimp only
  exact pk_loop (fun m i s => wX_currentSet_4 post 2 c l a1 a2 a3 a4 a5 a6 a7 a8 a9 m s (nI i)) (fun i s => s = cl_mk (cl_cu e ver has vs) i) 5 0 0 (by omega) rfl
    (fun m s hs => pk_le 5 5 (fun _ => by rw [hs]; exact hp) (fun z => absurd z (by omega)))
    (fun m i s hi hs hw => pk_le 5 i (fun z => absurd z (by omega)) (fun _ => cl_current2 h hi (cl_br rfl (fun hu => nm_r (nI_1 i) (hw s (by rw [cl_mk_f hu]; exact hs))) (fun hu => nm_e (nm_r (nI_1 i) (hw _ (by rw [cl_mk_t hu, hs])))))))
theorem cl_bits {post : Int32 → Prop} (p : Nat → Bool) (hp : post (nI (cl_ct p 5))) : wpX_bits post () (cl_mk p 5) := by
  unfold wpX_bits
  exact pk_loop (fun m i s => wX_bits_4 post (cl_mk p 5) m s (nI i)) (fun i s => s = nI (cl_ct p i)) 5 0 0 (by omega) rfl
    (fun m s hs => pk_le 5 5 (fun _ => by rw [hs]; exact hp) (fun z => absurd z (by omega)))
    (fun m i s hi hs hw => pk_le 5 i (fun z => absurd z (by omega)) (fun _ => nm_e (nm_r (nI_1 i) (hw _ (by rw [hs, cl_bit p hi, cl_ct_s])))))
theorem cl_loadOf {post : Int32 → Prop} {j : Nat} (h : cl_P n ver e up has vs vl c l a1 a2 a3 a4 a5 a6 a7 a8 a9) (hj : j < 5) (hc : cl_cu e ver has vs j = false) (hp : post 0) : wpX_loadOf post (c, l, a1, a2, a3, a4, a5, a6, a7, a8, a9) (nI j) := by
  unfold wpX_loadOf
  dsimp only
  exact pk_loop (σ := Unit) (fun m i _ => wX_loadOf_4 post (nI j) c l a1 a2 a3 a4 a5 a6 a7 a8 a9 m 0 (nI i)) (fun _ _ => True) 4 0 () (by omega) trivial
    (fun m _ _ => pk_le 4 4 (fun _ => hp) (fun z => absurd z (by omega)))
    (fun m i _ hi _ hw => pk_le 4 i (fun z => absurd z (by omega)) (fun _ => cl_current0 h hj hi hc (br_t rfl (nm_r (nI_1 i) (hw () trivial)))))
/-- the first of a set none of whose servers holds a current replica -/
theorem cl_firstOf {post : Int32 → Prop} (p : Nat → Bool) (f : Nat) (h : cl_P n ver e up has vs vl c l a1 a2 a3 a4 a5 a6 a7 a8 a9) (hc : ∀ j, j < 5 → p j = true → cl_cu e ver has vs j = false) (hf : f < 5) (hpf : p f = true) (hlo : ∀ j, j < f → p j = false) (hp : post (nI f)) : wpX_firstOf post (c, l, a1, a2, a3, a4, a5, a6, a7, a8, a9) (cl_mk p 5) := by
  unfold wpX_firstOf
  dsimp only
  refine pk_loop (σ := Int32) (fun m i s => wX_firstOf_7 post (cl_mk p 5) c l a1 a2 a3 a4 a5 a6 a7 a8 a9 m s 0 (nI i)) (fun i s => (i ≤ f → s = -1) ∧ (f < i → s = nI f)) 5 0 (-1) (by omega) ⟨fun _ => rfl, fun z => absurd z (by omega)⟩ ?_ ?_
  · intro m s hs
    refine pk_le 5 5 (fun _ => ?_) (fun z => absurd z (by omega))
    rw [hs.2 hf]
    exact hp
  · intro m i s hi hs hw
    refine pk_le 5 i (fun z => absurd z (by omega)) (fun _ => cl_br1 (cl_bit p hi) (fun hb => ?_) (fun hb => nm_r (nI_1 i) (hw s ⟨fun z => hs.1 (by omega), fun z => hs.2 ?_⟩)))
    · refine cl_loadOf h hi (hc i hi hb) ?_
      rcases Nat.lt_or_ge i f with z | z
      · rw [hlo i z] at hb
        exact absurd hb (by decide)
      · rcases Nat.lt_or_ge f i with y | y
        · have es := hs.2 y
          subst es
          exact br_f (nI_pos (by omega)) (br_t (by decide) (nm_r (nI_1 i) (hw _ ⟨fun z => absurd z (by omega), fun _ => rfl⟩)))
        · have es := hs.1 y
          have ei : i = f := by omega
          subst es
          exact br_t (by decide) (nm_r (nI_1 i) (hw _ ⟨fun z => absurd z (by omega), fun _ => by rw [ei]⟩))
    · rcases Nat.lt_or_ge f i with y | y
      · exact y
      · have ei : i = f := by omega
        rw [ei, hpf] at hb
        exact absurd hb (by decide)
theorem cl_source {post : Int32 → Prop} (f : Nat) (h : cl_P n ver e up has vs vl c l a1 a2 a3 a4 a5 a6 a7 a8 a9) (hf : f < 5) (hu : up f = true) (hc : cl_cu e ver has vs f = true) (hlo : ∀ j, j < f → up j = false ∨ cl_cu e ver has vs j = false) (hp : post (nI f)) : wpX_source post (c, l, a1, a2, a3, a4, a5, a6, a7, a8, a9) 2 := by
  obtain ⟨_, _, _, h1, _⟩ := id h
  unfold wpX_source
  dsimp only
  exact pk_loop (σ := Unit) (fun m i _ => wX_source_2 post 2 c l a1 a2 a3 a4 a5 a6 a7 a8 a9 m (nI i)) (fun _ _ => True) f 0 () (by omega) trivial
    (fun m _ _ => pk_le 5 f (fun z => absurd z (by omega)) (fun _ => ⟨pk_in f 5 hf, cl_br (b := up f) (by rw [nI_clamp (by omega)]; exact h1 f hf) (fun z => absurd z (by rw [hu]; decide)) (fun _ => cl_current2 h hf (cl_br rfl (fun z => absurd z (by rw [hc]; decide)) (fun _ => hp)))⟩))
    (fun m i _ hi _ hw => pk_le 5 i (fun z => absurd z (by omega)) (fun _ => ⟨pk_in i 5 (by omega), cl_br (b := up i) (by rw [nI_clamp (by omega)]; exact h1 i (by omega)) (fun _ => nm_r (nI_1 i) (hw () trivial)) (fun y => cl_current2 h (by omega) (cl_br rfl (fun _ => nm_r (nI_1 i) (hw () trivial)) (fun x => by
      rcases hlo i hi with z | z
      · rw [z] at y; exact absurd y (by decide)
      · rw [z] at x; exact absurd x (by decide))))⟩))
theorem cl_source0 {post : Int32 → Prop} (h : cl_P n ver e up has vs vl c l a1 a2 a3 a4 a5 a6 a7 a8 a9) (hlo : ∀ j, j < 5 → up j = false ∨ cl_cu e ver has vs j = false) (hp : post (-1)) : wpX_source post (c, l, a1, a2, a3, a4, a5, a6, a7, a8, a9) 2 := by
  obtain ⟨_, _, _, h1, _⟩ := id h
  unfold wpX_source
  dsimp only
  exact pk_loop (σ := Unit) (fun m i _ => wX_source_2 post 2 c l a1 a2 a3 a4 a5 a6 a7 a8 a9 m (nI i)) (fun _ _ => True) 5 0 () (by omega) trivial
    (fun m _ _ => pk_le 5 5 (fun _ => hp) (fun z => absurd z (by omega)))
    (fun m i _ hi _ hw => pk_le 5 i (fun z => absurd z (by omega)) (fun _ => ⟨pk_in i 5 (by omega), cl_br (b := up i) (by rw [nI_clamp (by omega)]; exact h1 i (by omega)) (fun _ => nm_r (nI_1 i) (hw () trivial)) (fun y => cl_current2 h (by omega) (cl_br rfl (fun _ => nm_r (nI_1 i) (hw () trivial)) (fun x => by
      rcases hlo i hi with z | z
      · rw [z] at y; exact absurd y (by decide)
      · rw [z] at x; exact absurd x (by decide))))⟩))
theorem cl_bf {post : Int32 → Prop} (hp : post 0) : wpX_badFile post () 2 := br_f (by decide) (br_t (by decide) hp)
theorem cl_bs {post : Int32 → Prop} {j : Nat} (hj : j < 5) (hp : post 0) : wpX_badServer post () (nI j) := br_f (nI_pos (by omega)) (br_t (nI_lt (b := 5) hj (by omega)) hp)
theorem cl_ex (h : cl_P n ver true up has vs vl c l a1 a2 a3 a4 a5 a6 a7 a8 a9) : ¬ a2 (2 : Int32).toNatClampNeg = 0 := by
  obtain ⟨_, _, _, _, _, h2, _⟩ := h
  rw [pk_cl 2, h2]
  decide
theorem cl_refusal {post : Int32 → Prop} (f : Nat) (h : cl_P n ver true up has vs vl c l a1 a2 a3 a4 a5 a6 a7 a8 a9) (hf : f < 5) (hu : up f = true) (hc : cl_cu true ver has vs f = true) (hlo : ∀ j, j < f → up j = false ∨ cl_cu true ver has vs j = false) (hp : post 0) : wpX_refusal post (c, l, a1, a2, a3, a4, a5, a6, a7, a8, a9) 2 := by
  unfold wpX_refusal
  dsimp only
  exact cl_bf (br_t rfl ⟨pk_in 2 4 (by omega), br_f (cl_ex h) (cl_source f h hf hu hc hlo (br_t (nI_pos' (by omega)) hp))⟩)
theorem cl_refusal0 {post : Int32 → Prop} (h : cl_P n ver true up has vs vl c l a1 a2 a3 a4 a5 a6 a7 a8 a9) (hlo : ∀ j, j < 5 → up j = false ∨ cl_cu true ver has vs j = false) (hp : post (-5)) : wpX_refusal post (c, l, a1, a2, a3, a4, a5, a6, a7, a8, a9) 2 := by
  unfold wpX_refusal
  dsimp only
  exact cl_bf (br_t rfl ⟨pk_in 2 4 (by omega), br_f (cl_ex h) (cl_source0 h hlo (br_f (by decide) hp))⟩)
theorem cl_replicas {post : Int32 → Prop} (h : cl_P n ver true up has vs vl c l a1 a2 a3 a4 a5 a6 a7 a8 a9) (hp : post (cl_mk (cl_cu true ver has vs) 5)) : wpX_replicas post (c, l, a1, a2, a3, a4, a5, a6, a7, a8, a9) 2 := by
  unfold wpX_replicas
  dsimp only
  exact cl_bf (br_t rfl ⟨pk_in 2 4 (by omega), br_f (cl_ex h) (cl_currentSet h hp)⟩)
theorem cl_read {post : Int32 → Prop} (f : Nat) (h : cl_P n ver true up has vs vl c l a1 a2 a3 a4 a5 a6 a7 a8 a9) (hf : f < 5) (hu : up f = true) (hc : cl_cu true ver has vs f = true) (hlo : ∀ j, j < f → up j = false ∨ cl_cu true ver has vs j = false) (hp : post (vl f)) : wpX_read post (c, l, a1, a2, a3, a4, a5, a6, a7, a8, a9) 2 0 := by
  have hh : has f = true := by
    unfold cl_cu at hc
    cases z : has f
    · rw [z] at hc; exact absurd hc (by simp)
    · rfl
  unfold wpX_read
  dsimp only
  refine cl_refusal f h hf hu hc hlo (br_t rfl (br_f (by decide) (br_t (by decide) (cl_source f h hf hu hc hlo ?_))))
  obtain ⟨_, _, _, _, _, _, _, hq⟩ := h
  obtain ⟨_, q4, _, _, _, qh⟩ := hq f hf
  obtain ⟨q6, _⟩ := qh hh
  rw [hh] at q4
  have q4' : a4 (nI f * 4 + 2).toNatClampNeg = nI (f * 4) := by
    rw [show (2 : Int32) = nI 2 from rfl, cl_c4 hf (by omega)]
    exact q4
  rw [q4']
  refine ⟨cl_n4 (f := 2) hf (by omega), cl_n6 (i := 0) (by omega) (by omega), ?_⟩
  rw [show (0 : Int32) = nI 0 from rfl, cl_c6 (by omega) (by omega), Nat.add_zero, q6]
  exact hp
end
end
section
/-- the same but for server i's four places -/
def cl_ag (i : Nat) (a a' : Nat → Int32) : Prop := ∀ k, (k < i * 4 ∨ i * 4 + 4 ≤ k) → a' k = a k
/-- the same but for server i's 24 cells -/
def cl_ah (i : Nat) (a a' : Nat → Int32) : Prop := ∀ k, (k < i * 24 ∨ i * 24 + 24 ≤ k) → a' k = a k
theorem cl_ag_r (i : Nat) (a : Nat → Int32) : cl_ag i a a := fun _ _ => rfl
theorem cl_ah_r (i : Nat) (a : Nat → Int32) : cl_ah i a a := fun _ _ => rfl
theorem cl_ag_u {i f : Nat} {a a' : Nat → Int32} {x : Int32} (hf : f < 4) (h : cl_ag i a a') : cl_ag i a (upd a' (i * 4 + f) x) := fun k hk => by
  rw [pk_un (by omega)]
  exact h k hk
theorem cl_ag_0 {i : Nat} {a a' : Nat → Int32} {x : Int32} (h : cl_ag i a a') : cl_ag i a (upd a' (i * 4) x) := cl_ag_u (f := 0) (by omega) h
/-- what server j shows isn't touched by what happens on server i -/
theorem cl_Qf {b : Bool} {x : Nat} {y : Int32} {i j : Nat} {a4 a5 a6 a7 a8 a9 a4' a5' a6' a7' a8' a9' : Nat → Int32} (hij : j ≠ i) (h : cl_Q b x y j a4 a5 a6 a7 a8 a9)
    (g4 : cl_ag i a4 a4') (g5 : cl_ag i a5 a5') (g6 : cl_ah i a6 a6') (g7 : cl_ag i a7 a7') (g8 : cl_ag i a8 a8') (g9 : cl_ag i a9 a9') : cl_Q b x y j a4' a5' a6' a7' a8' a9' := by
  obtain ⟨q0, q4, q5, qx, q9, qh⟩ := h
  refine ⟨fun f hf hf2 => ?_, ?_, ?_, qx, ?_, fun hb => ?_⟩
  · rw [g4 _ (by omega)]; exact q0 f hf hf2
  · rw [g4 _ (by omega)]; exact q4
  · rw [g5 _ (by omega)]; exact q5
  · rw [g9 _ (by omega)]; exact q9
  · obtain ⟨q6, q8⟩ := qh hb
    refine ⟨?_, ?_⟩
    · rw [g6 _ (by omega)]; exact q6
    · rw [g8 _ (by omega), q8]
      exact (cl_sm_c 6 (g7 _ (by omega)) (fun m hm => g6 _ (by omega))).symm
section
variable {n ver : Nat} {e : Bool} {up has : Nat → Bool} {vs : Nat → Nat} {vl : Nat → Int32} {c l : Int32} {a1 a2 a3 a4 a5 a6 a7 a8 a9 : Nat → Int32}
/-- one server's rows change -/
theorem cl_srv {has' : Nat → Bool} {vs' : Nat → Nat} {vl' : Nat → Int32} {a4' a5' a6' a7' a8' a9' : Nat → Int32} (i : Nat) (h : cl_P n ver e up has vs vl c l a1 a2 a3 a4 a5 a6 a7 a8 a9)
    (ho : ∀ j, j < 5 → j ≠ i → has' j = has j ∧ vs' j = vs j ∧ (has j = true → vl' j = vl j))
    (g4 : cl_ag i a4 a4') (g5 : cl_ag i a5 a5') (g6 : cl_ah i a6 a6') (g7 : cl_ag i a7 a7') (g8 : cl_ag i a8 a8') (g9 : cl_ag i a9 a9')
    (hq' : cl_Q (has' i) (vs' i) (vl' i) i a4' a5' a6' a7' a8' a9') : cl_P n ver e up has' vs' vl' c l a1 a2 a3 a4' a5' a6' a7' a8' a9' := by
  obtain ⟨hc, hl, hv, h1, h20, h2, h3, hq⟩ := h
  refine ⟨hc, hl, hv, h1, h20, h2, h3, fun j hj => ?_⟩
  by_cases ej : j = i
  · rw [ej]; exact hq'
  · obtain ⟨o1, o2, o3⟩ := ho j hj ej
    obtain ⟨q0, q4, q5, qx, q9, qh⟩ := cl_Qf ej (hq j hj) g4 g5 g6 g7 g8 g9
    rw [o1, o2]
    refine ⟨q0, q4, q5, qx, q9, fun hb => ?_⟩
    rw [o3 hb]
    exact qh hb
/-- the picture, told otherwise -/
theorem cl_Pe {up' has' : Nat → Bool} {vs' : Nat → Nat} {vl' : Nat → Int32} (h : cl_P n ver e up has vs vl c l a1 a2 a3 a4 a5 a6 a7 a8 a9)
    (hu : ∀ j, j < 5 → up' j = up j) (hh : ∀ j, j < 5 → has' j = has j) (hv : ∀ j, j < 5 → vs' j = vs j) (hw : ∀ j, j < 5 → has j = true → vl' j = vl j) : cl_P n ver e up' has' vs' vl' c l a1 a2 a3 a4 a5 a6 a7 a8 a9 := by
  obtain ⟨hc, hl, hv0, h1, h20, h2, h3, hq⟩ := h
  refine ⟨hc, hl, hv0, fun j hj => ?_, h20, h2, h3, fun j hj => ?_⟩
  · rw [hu j hj]; exact h1 j hj
  · obtain ⟨q0, q4, q5, qx, q9, qh⟩ := hq j hj
    rw [hh j hj, hv j hj]
    refine ⟨q0, q4, q5, qx, q9, fun hb => ?_⟩
    rw [hw j hj hb]
    exact qh hb
theorem cl_letGo_n {post : St2 → Prop} {j f : Nat} (hj : j < 5) (hf : f < 4) (hv : a4 (j * 4 + f) = -1) (hp : post (c, l, a1, a2, a3, upd a4 (j * 4 + f) (-1), a5, a6, a7, a8, a9)) : wpX_letGo post (c, l, a1, a2, a3, a4, a5, a6, a7, a8, a9) (nI j) (nI f) := by
  unfold wpX_letGo
  dsimp only
  rw [cl_c4 hj hf, hv]
  refine ⟨cl_n4 hj hf, nm_e (br_t (by decide) ?_)⟩
  unfold wX_letGo_25
  rw [cl_c4 hj hf]
  exact ⟨cl_n4 hj hf, nm_e hp⟩
theorem cl_letGo_s {post : St2 → Prop} {j f b : Nat} (hj : j < 5) (hf : f < 4) (hb : b < 20) (hv : a4 (j * 4 + f) = nI b) (hp : post (c, l, a1, a2, a3, upd a4 (j * 4 + f) (-1), a5, a6, a7, a8, upd a9 b (a9 b - 1))) : wpX_letGo post (c, l, a1, a2, a3, a4, a5, a6, a7, a8, a9) (nI j) (nI f) := by
  unfold wpX_letGo
  dsimp only
  rw [cl_c4 hj hf, hv]
  refine ⟨cl_n4 hj hf, nm_r (e' := nI b) rfl (br_f (nI_pos (by omega)) ⟨pk_in b 20 hb, pk_in b 20 hb, nm_r (e' := upd a9 b (a9 b - 1)) (by rw [nI_clamp (by omega)]) ?_⟩)⟩
  unfold wX_letGo_25
  rw [cl_c4 hj hf]
  exact ⟨cl_n4 hj hf, nm_e hp⟩
/-- letting go a file other than 2: nothing changes -/
theorem cl_letGo_o {post : St2 → Prop} {j f : Nat} (h : cl_P n ver e up has vs vl c l a1 a2 a3 a4 a5 a6 a7 a8 a9) (hj : j < 5) (hf : f < 4) (hf2 : f ≠ 2) (hp : ∀ a4', cl_P n ver e up has vs vl c l a1 a2 a3 a4' a5 a6 a7 a8 a9 → post (c, l, a1, a2, a3, a4', a5, a6, a7, a8, a9)) : wpX_letGo post (c, l, a1, a2, a3, a4, a5, a6, a7, a8, a9) (nI j) (nI f) := by
  obtain ⟨_, _, _, _, _, _, _, hq⟩ := id h
  obtain ⟨q0, q4, q5, qx, q9, qh⟩ := hq j hj
  refine cl_letGo_n hj hf (q0 f hf hf2) (hp _ (cl_srv j h (fun k _ _ => ⟨rfl, rfl, fun _ => rfl⟩) (cl_ag_u hf (cl_ag_r j a4)) (cl_ag_r _ _) (cl_ah_r _ _) (cl_ag_r _ _) (cl_ag_r _ _) (cl_ag_r _ _) ⟨fun g hg hg2 => ?_, ?_, q5, qx, q9, qh⟩))
  · by_cases eg : g = f
    · rw [eg, pk_us]
    · rw [pk_un (by omega)]
      exact q0 g hg hg2
  · rw [pk_un (by omega)]
    exact q4
/-- letting go file 2 -/
theorem cl_letGo_2 {post : St2 → Prop} {j : Nat} (h : cl_P n ver e up has vs vl c l a1 a2 a3 a4 a5 a6 a7 a8 a9) (hj : j < 5) (hp : ∀ a4' a9', cl_P n ver e up (fun k => has k && !(k == j)) vs vl c l a1 a2 a3 a4' a5 a6 a7 a8 a9' → post (c, l, a1, a2, a3, a4', a5, a6, a7, a8, a9')) : wpX_letGo post (c, l, a1, a2, a3, a4, a5, a6, a7, a8, a9) (nI j) (nI 2) := by
  obtain ⟨_, _, _, _, _, _, _, hq⟩ := id h
  obtain ⟨q0, q4, q5, qx, q9, qh⟩ := hq j hj
  have ho : ∀ k, k < 5 → k ≠ j → (has k && !(k == j)) = has k ∧ vs k = vs k ∧ (has k = true → vl k = vl k) := fun k _ ek => ⟨by rw [beq_eq_false_iff_ne.mpr ek]; exact Bool.and_true _, rfl, fun _ => rfl⟩
  have hz : (has j && !(j == j)) = false := by rw [beq_self_eq_true]; exact Bool.and_false _
  have p0 : ∀ x, ∀ f, f < 4 → f ≠ 2 → upd a4 (j * 4 + 2) x (j * 4 + f) = -1 := fun x f hf hf2 => by
    rw [pk_un (by omega)]
    exact q0 f hf hf2
  cases hh : has j
  · rw [hh] at q4 q9
    refine cl_letGo_n hj (by omega) q4 (hp _ _ (cl_srv j h ho (cl_ag_u (by omega) (cl_ag_r j a4)) (cl_ag_r _ _) (cl_ah_r _ _) (cl_ag_r _ _) (cl_ag_r _ _) (cl_ag_r j a9) ?_))
    rw [hz]
    exact ⟨p0 _, pk_us, q5, qx, q9, fun z => absurd z (by decide)⟩
  · rw [hh] at q4 q9
    refine cl_letGo_s (b := j * 4) hj (by omega) (by omega) q4 (hp _ _ (cl_srv j h ho (cl_ag_u (by omega) (cl_ag_r j a4)) (cl_ag_r _ _) (cl_ah_r _ _) (cl_ag_r _ _) (cl_ag_r _ _) (cl_ag_0 (cl_ag_r j a9)) ?_))
    rw [hz]
    refine ⟨p0 _, pk_us, q5, qx, ?_, fun z => absurd z (by decide)⟩
    rw [pk_us, q9]
    decide
theorem cl_freeBlock {post : Int32 → Prop} {j : Nat} (hj : j < 5) (hv : a9 (j * 4) = 0) (hp : post (nI (j * 4))) : wpX_freeBlock post (c, l, a1, a2, a3, a4, a5, a6, a7, a8, a9) (nI j) := by
  unfold wpX_freeBlock
  dsimp only
  refine nm_r (cl_i40 j) (Exists.intro 1 (pk_le (j * 4 + 3) (j * 4) (fun z => absurd z (by omega)) (fun _ => ⟨pk_in (j * 4) 20 (by omega), br_t ?_ hp⟩) (cl_i43 j)))
  rw [nI_clamp (by omega), hv]
  decide
theorem cl_newReplica {post : Int32 → St2 → Prop} {j : Nat} (hj : j < 5) (h4 : a4 (j * 4 + 2) = -1) (h9 : a9 (j * 4) = 0) (hp : post (nI (j * 4)) (c, l, a1, a2, a3, upd (upd a4 (j * 4 + 2) (-1)) (j * 4 + 2) (nI (j * 4)), upd a5 (j * 4 + 2) (a3 2), a6, a7, a8, upd a9 (j * 4) 1)) : wpX_newReplica post (c, l, a1, a2, a3, a4, a5, a6, a7, a8, a9) (nI j) (nI 2) := by
  unfold wpX_newReplica
  dsimp only
  refine cl_letGo_n hj (by omega) h4 ?_
  dsimp only
  refine cl_freeBlock hj h9 ?_
  rw [cl_c4 hj (show 2 < 4 by omega), nI_clamp (show 2 < 2 ^ 31 by omega), nI_clamp (show j * 4 < 2 ^ 31 by omega)]
  exact ⟨pk_in (j * 4) 20 (by omega), nm_e ⟨cl_n4 hj (by omega), nm_e ⟨pk_in 2 4 (by omega), cl_n4 hj (by omega), nm_e hp⟩⟩⟩
theorem cl_newVersion {post : St2 → Prop} (hp : post (c, l + 1, a1, a2, upd a3 2 (l + 1), a4, a5, a6, a7, a8, a9)) : wpX_newVersion post (c, l, a1, a2, a3, a4, a5, a6, a7, a8, a9) 2 := by
  unfold wpX_newVersion
  dsimp only
  exact nm_e ⟨pk_in 2 4 (by omega), nm_r (by rw [pk_cl 2]) hp⟩
theorem cl_copyBlock {post : St2 → Prop} {b d : Nat} (hb : b < 20) (hd : d < 20) (hbd : b ≠ d) (hp : ∀ s, (∀ i, i < 6 → s (d * 6 + i) = a6 (b * 6 + i)) → (∀ k, (k < d * 6 ∨ d * 6 + 6 ≤ k) → s k = a6 k) → post (c, l, a1, a2, a3, a4, a5, s, upd a7 d (a7 b), upd a8 d (a8 b), a9)) : wpX_copyBlock post (c, l, a1, a2, a3, a4, a5, a6, a7, a8, a9) (nI b) (nI d) := by
  unfold wpX_copyBlock
  dsimp only
  refine pk_loop (fun m i s => wX_copyBlock_2 post (nI b) (nI d) c l m (nI i) a1 a2 a3 a4 a5 s a7 a8 a9) (fun i s => (∀ m, m < i → s (d * 6 + m) = a6 (b * 6 + m)) ∧ (∀ k, (k < d * 6 ∨ d * 6 + 6 ≤ k) → s k = a6 k)) 6 0 a6 (by omega) ⟨fun m hm => absurd hm (by omega), fun _ _ => rfl⟩ ?_ ?_
  · intro m s hs
    refine pk_le 6 6 (fun _ => ?_) (fun z => absurd z (by omega))
    rw [nI_clamp (show b < 2 ^ 31 by omega), nI_clamp (show d < 2 ^ 31 by omega)]
    exact ⟨pk_in b 20 hb, pk_in d 20 hd, nm_e ⟨pk_in b 20 hb, pk_in d 20 hd, nm_e (hp s hs.1 hs.2)⟩⟩
  · intro m i s hi hs hw
    refine pk_le 6 i (fun z => absurd z (by omega)) (fun _ => ?_)
    rw [cl_c6 hb hi, cl_c6 hd hi]
    refine ⟨cl_n6 hb hi, cl_n6 hd hi, nm_e (nm_r (nI_1 i) (hw _ ⟨fun m hm => ?_, fun k hk => ?_⟩))⟩
    · by_cases em : m = i
      · rw [em, pk_us]
        exact hs.2 _ (by omega)
      · rw [pk_un (by omega)]
        exact hs.1 m (by omega)
    · rw [pk_un (by omega)]
      exact hs.2 k hk
theorem cl_ownBlock {post : Int32 → St2 → Prop} {j : Nat} (h : cl_P n ver e up has vs vl c l a1 a2 a3 a4 a5 a6 a7 a8 a9) (hj : j < 5) (hh : has j = true) (hp : post (nI (j * 4)) (c, l, a1, a2, a3, a4, a5, a6, a7, a8, a9)) : wpX_ownBlock post (c, l, a1, a2, a3, a4, a5, a6, a7, a8, a9) (nI j) (nI 2) := by
  obtain ⟨_, _, _, _, _, _, _, hq⟩ := id h
  obtain ⟨q0, q4, q5, qx, q9, qh⟩ := hq j hj
  rw [hh] at q4 q9
  unfold wpX_ownBlock
  dsimp only
  rw [cl_c4 hj (show 2 < 4 by omega), q4]
  refine ⟨cl_n4 hj (by omega), nm_r (e' := nI (j * 4)) rfl ⟨pk_in (j * 4) 20 (by omega), br_t ?_ hp⟩⟩
  rw [nI_clamp (by omega), q9]
  rfl
end
end
section
theorem cl_c2 : (2 : Int32).toNatClampNeg = 2 := by decide
theorem cl_c42 {j : Nat} (hj : j < 5) : (nI j * 4 + 2).toNatClampNeg = j * 4 + 2 := cl_c4 (f := 2) hj (by omega)
theorem cl_c60 {k : Nat} (hk : k < 20) : (nI k * 6 + 0).toNatClampNeg = k * 6 := cl_c6 (i := 0) hk (by omega)
section
variable {n ver : Nat} {e : Bool} {up has : Nat → Bool} {vs : Nat → Nat} {vl : Nat → Int32} {c l : Int32} {a1 a2 a3 a4 a5 a6 a7 a8 a9 : Nat → Int32}
theorem cl_q0 {j : Nat} (h : cl_P n ver e up has vs vl c l a1 a2 a3 a4 a5 a6 a7 a8 a9) (hj : j < 5) (hh : has j = false) : a4 (j * 4 + 2) = -1 ∧ a9 (j * 4) = 0 := by
  obtain ⟨_, _, _, _, _, _, _, hq⟩ := h
  obtain ⟨q0, q4, q5, qx, q9, qh⟩ := hq j hj
  rw [hh] at q4 q9
  exact ⟨q4, q9⟩
theorem cl_q1 {j : Nat} (h : cl_P n ver e up has vs vl c l a1 a2 a3 a4 a5 a6 a7 a8 a9) (hj : j < 5) (hh : has j = true) : a4 (j * 4 + 2) = nI (j * 4) ∧ a9 (j * 4) = 1 ∧ a6 (j * 4 * 6) = vl j ∧ a8 (j * 4) = cl_sm a6 a7 (j * 4) 6 := by
  obtain ⟨_, _, _, _, _, _, _, hq⟩ := h
  obtain ⟨q0, q4, q5, qx, q9, qh⟩ := hq j hj
  rw [hh] at q4 q9
  exact ⟨q4, q9, qh hh⟩
theorem cl_qo {j : Nat} (h : cl_P n ver e up has vs vl c l a1 a2 a3 a4 a5 a6 a7 a8 a9) (hj : j < 5) : (∀ f, f < 4 → f ≠ 2 → a4 (j * 4 + f) = -1) ∧ a5 (j * 4 + 2) = nI (vs j) ∧ vs j < 100 := by
  obtain ⟨_, _, _, _, _, _, _, hq⟩ := h
  obtain ⟨q0, q4, q5, qx, q9, qh⟩ := hq j hj
  exact ⟨q0, q5, qx⟩
theorem cl_nv (h : cl_P n ver e up has vs vl c l a1 a2 a3 a4 a5 a6 a7 a8 a9) (hv : ver + 1 < 100) : cl_P n (ver + 1) e up has vs vl c (l + 1) a1 a2 (upd a3 2 (l + 1)) a4 a5 a6 a7 a8 a9 := by
  obtain ⟨hc, hl, _, h1, h20, h2, h3, hq⟩ := h
  refine ⟨hc, ?_, hv, h1, h20, h2, ?_, hq⟩
  · rw [hl, nI_1]
  · rw [pk_us, hl, nI_1]
theorem cl_mkex (h : cl_P n ver e up has vs vl c l a1 a2 a3 a4 a5 a6 a7 a8 a9) : cl_P n ver true up has vs vl c l a1 (upd a2 2 1) a3 a4 a5 a6 a7 a8 a9 := by
  obtain ⟨hc, hl, hv, h1, h20, h2, h3, hq⟩ := h
  refine ⟨hc, hl, hv, h1, fun f hf hf2 => ?_, ?_, h3, hq⟩
  · rw [pk_un hf2]; exact h20 f hf hf2
  · rw [pk_us]; rfl
/-- create's inner loop: the new block is emptied and summed -/
theorem cl_c91 {post : Int32 → St2 → Prop} {J : Int32 → Int32 → Int32 → Int32 → Int32 → (Nat → Int32) → (Nat → Int32) → (Nat → Int32) → (Nat → Int32) → (Nat → Int32) → (Nat → Int32) → (Nat → Int32) → (Nat → Int32) → (Nat → Int32) → Prop} {x1 x2 x3 x4 : Int32} {b : Nat} (hb : b < 20)
    (H : ∀ s, (∀ i, i < 6 → s (b * 6 + i) = 0) → (∀ k, (k < b * 6 ∨ b * 6 + 6 ≤ k) → s k = a6 k) → J x2 (x3 + 1) (x4 + 1) c l a1 a2 a3 a4 a5 s (upd a7 b 0) (upd a8 b (cl_sm s (upd a7 b 0) b 6)) a9) :
    ∃ m, wX_create_91 post J x1 x2 x3 x4 (nI b) c l m 0 a1 a2 a3 a4 a5 a6 a7 a8 a9 := by
  refine pk_loop (fun m i s => wX_create_91 post J x1 x2 x3 x4 (nI b) c l m (nI i) a1 a2 a3 a4 a5 s a7 a8 a9) (fun i s => (∀ m, m < i → s (b * 6 + m) = 0) ∧ (∀ k, (k < b * 6 ∨ b * 6 + 6 ≤ k) → s k = a6 k)) 6 0 a6 (by omega) ⟨fun m hm => absurd hm (by omega), fun _ _ => rfl⟩ ?_ ?_
  · intro m s hs
    refine pk_le 6 6 (fun _ => ?_) (fun z => absurd z (by omega))
    rw [nI_clamp (show b < 2 ^ 31 by omega)]
    exact ⟨pk_in b 20 hb, nm_e (cl_sumOf hb ⟨pk_in b 20 hb, nm_e (nm_e (nm_e (H s hs.1 hs.2)))⟩)⟩
  · intro m i s hi hs hw
    refine pk_le 6 i (fun z => absurd z (by omega)) (fun _ => ?_)
    rw [cl_c6 hb hi]
    refine ⟨cl_n6 hb hi, nm_e (nm_r (nI_1 i) (hw _ ⟨fun m hm => ?_, fun k hk => ?_⟩))⟩
    · by_cases em : m = i
      · rw [em, pk_us]
      · rw [pk_un (by omega)]
        exact hs.1 m (by omega)
    · rw [pk_un (by omega)]
      exact hs.2 k hk
/-- a new replica on server i, its block filled: the picture behind it -/
theorem cl_put {i : Nat} {has' : Nat → Bool} {vs' : Nat → Nat} {vl' : Nat → Int32} {s6 a7' a8' : Nat → Int32} (h : cl_P n ver e up has vs vl c l a1 a2 a3 a4 a5 a6 a7 a8 a9) (hi : i < 5)
    (ho : ∀ j, j < 5 → j ≠ i → has' j = has j ∧ vs' j = vs j ∧ (has j = true → vl' j = vl j)) (hh : has' i = true) (hv : vs' i = ver)
    (g6 : ∀ k, (k < i * 4 * 6 ∨ i * 4 * 6 + 6 ≤ k) → s6 k = a6 k) (g7 : cl_ag i a7 a7') (g8 : cl_ag i a8 a8') (hc : s6 (i * 4 * 6) = vl' i) (hs : a8' (i * 4) = cl_sm s6 a7' (i * 4) 6) :
    cl_P n ver e up has' vs' vl' c l a1 a2 a3 (upd (upd a4 (i * 4 + 2) (-1)) (i * 4 + 2) (nI (i * 4))) (upd a5 (i * 4 + 2) (a3 2)) s6 a7' a8' (upd a9 (i * 4) 1) := by
  obtain ⟨q0, _, _⟩ := cl_qo h hi
  obtain ⟨_, _, hver, _, _, _, h3, _⟩ := id h
  refine cl_srv i h ho (cl_ag_u (by omega) (cl_ag_u (by omega) (cl_ag_r i a4))) (cl_ag_u (by omega) (cl_ag_r i a5)) (fun k hk => g6 k (by omega)) g7 g8 (cl_ag_0 (cl_ag_r i a9)) ?_
  rw [hh, hv]
  refine ⟨fun f hf hf2 => ?_, ?_, ?_, hver, ?_, fun _ => ⟨hc, hs⟩⟩
  · rw [pk_un (by omega), pk_un (by omega)]
    exact q0 f hf hf2
  · rw [pk_us]
    rfl
  · rw [pk_us, h3]
  · rw [pk_us]
    rfl
end
section
variable {n : Nat}
theorem cl_c50 {post : Int32 → St2 → Prop} (hn1 : 1 ≤ n) (hn : n ≤ 3) (hp : ∀ (c l : Int32) (a1 a2 a3 a4 a5 a6 a7 a8 a9 : Nat → Int32), cl_P n 1 true (fun _ => true) (fun j => decide (j < n)) (fun j => if j < n then 1 else 0) (fun _ => 0) c l a1 a2 a3 a4 a5 a6 a7 a8 a9 → a7 0 = 0 → post (nI n) (c, l, a1, a2, a3, a4, a5, a6, a7, a8, a9)) :
    ∀ (d i : Nat) (c l : Int32) (a1 a2 a3 a4 a5 a6 a7 a8 a9 : Nat → Int32), i + d = n → cl_P n 1 true (fun _ => true) (fun j => decide (j < i)) (fun j => if j < i then 1 else 0) (fun _ => 0) c l a1 a2 a3 a4 a5 a6 a7 a8 a9 → (0 < i → a7 0 = 0) → wX_create_50 post 2 (d + 1) (cl_mk (fun j => decide (i ≤ j)) 5) (nI i) (nI i) c l a1 a2 a3 a4 a5 a6 a7 a8 a9 := by
  intro d
  induction d with
  | zero =>
    intro i c l a1 a2 a3 a4 a5 a6 a7 a8 a9 hd h h7
    have ei : i = n := by omega
    subst ei
    exact pk_le i i (fun _ => hp c l a1 a2 a3 a4 a5 a6 a7 a8 a9 h (h7 (by omega))) (fun z => absurd z (by omega)) h.1
  | succ d ih =>
    intro i c l a1 a2 a3 a4 a5 a6 a7 a8 a9 hd h h7
    have hi : i < 5 := by omega
    obtain ⟨h4, h9⟩ := cl_q0 h hi (decide_eq_false (by omega))
    refine pk_le n i (fun z => absurd z (by omega)) (fun _ => br_f (cl_nz hi (decide_eq_true (by omega))) (cl_firstOf _ i h (fun j hj hb => ?_) hi (decide_eq_true (by omega)) (fun j hj => decide_eq_false (by omega)) (nm_r (e' := cl_mk (fun j => decide (i + 1 ≤ j)) 5) ?_ (cl_newReplica hi h4 h9 ?_)))) h.1
    · have hb' := of_decide_eq_true hb
      unfold cl_cu
      dsimp only
      rw [decide_eq_false (show ¬ j < i by omega)]
      rfl
    · rw [cl_clr _ hi]
      refine cl_mk_c 5 (fun j hj => ?_)
      by_cases ej : j = i
      · rw [decide_eq_false (show ¬ i + 1 ≤ j by omega), ej, beq_self_eq_true]
        exact Bool.and_false _
      · rw [beq_eq_false_iff_ne.mpr ej, show decide (i + 1 ≤ j) = decide (i ≤ j) from decide_eq_decide.mpr (by omega)]
        exact Bool.and_true _
    · dsimp only
      refine cl_c91 (by omega) (fun s s0 s1 => ?_)
      rw [nI_1]
      refine ih (i + 1) _ _ _ _ _ _ _ _ _ _ _ (by omega) (cl_put h hi (fun j hj ej => ⟨decide_eq_decide.mpr (by omega), ?_, fun _ => rfl⟩) (decide_eq_true (by omega)) (if_pos (by omega)) s1 (cl_ag_0 (cl_ag_r i a7)) (cl_ag_0 (cl_ag_r i a8)) (s0 0 (by omega)) pk_us) (fun _ => ?_)
      · by_cases z : j < i
        · rw [if_pos z, if_pos (by omega)]
        · rw [if_neg z, if_neg (by omega)]
      · by_cases z : i = 0
        · subst z
          exact pk_us
        · rw [pk_un (by omega)]
          exact h7 (by omega)
theorem cl_create {c l : Int32} {a1 a2 a3 a4 a5 a6 a7 a8 a9 : Nat → Int32} {post : Int32 → St2 → Prop} (hn1 : 1 ≤ n) (hn : n ≤ 3) (h : cl_P n 0 false (fun _ => true) (fun _ => false) (fun _ => 0) (fun _ => 0) c l a1 a2 a3 a4 a5 a6 a7 a8 a9)
    (hp : ∀ (c l : Int32) (a1 a2 a3 a4 a5 a6 a7 a8 a9 : Nat → Int32), cl_P n 1 true (fun _ => true) (fun j => decide (j < n)) (fun j => if j < n then 1 else 0) (fun _ => 0) c l a1 a2 a3 a4 a5 a6 a7 a8 a9 → a7 0 = 0 → post (nI n) (c, l, a1, a2, a3, a4, a5, a6, a7, a8, a9)) : wpX_create post (c, l, a1, a2, a3, a4, a5, a6, a7, a8, a9) 2 := by
  have h2 : a2 (2 : Int32).toNatClampNeg = 0 := by
    obtain ⟨_, _, _, _, _, h2, _⟩ := h
    rw [cl_c2, h2]
    rfl
  unfold wpX_create
  dsimp only
  refine cl_bf (br_t rfl ⟨pk_in 2 4 (by omega), br_t h2 (cl_upSet h (br_f (cl_nz (i := 0) (by omega) rfl) ⟨pk_in 2 4 (by omega), nm_r (e' := upd a2 2 1) (by rw [cl_c2]) (cl_newVersion ?_)⟩))⟩)
  dsimp only
  have h' := cl_nv (cl_mkex h) (by omega)
  exact Exists.intro (n + 1) (cl_c50 hn1 hn hp n 0 _ _ _ _ _ _ _ _ _ _ _ (by omega) (cl_Pe h' (fun _ _ => rfl) (fun _ _ => rfl) (fun _ _ => rfl) (fun _ _ _ => rfl)) (fun z => absurd z (by omega)))
end
end
section
section
variable {n ver : Nat} {e : Bool} {up has : Nat → Bool} {vs : Nat → Nat} {vl : Nat → Int32}
theorem cl_m136 {c l : Int32} {a1 a2 a3 a4 a5 a6 a7 a8 a9 : Nat → Int32} {post : Int32 → St2 → Prop} {J : Int32 → Int32 → Int32 → (Nat → Int32) → (Nat → Int32) → (Nat → Int32) → (Nat → Int32) → (Nat → Int32) → (Nat → Int32) → (Nat → Int32) → (Nat → Int32) → (Nat → Int32) → Prop} {x1 x2 x3 x5 : Int32} {i : Nat} (hi : i < 5) (H : J (nI (i + 1)) c l a1 a2 a3 a4 a5 a6 a7 (upd a8 (i * 4) (cl_sm a6 a7 (i * 4) 6)) a9) : wX_mutate_136 post J x1 x2 x3 x5 (nI i) (nI (i * 4)) c l a1 a2 a3 a4 a5 a6 a7 a8 a9 := by
  unfold wX_mutate_136
  refine cl_sumOf (by omega) ⟨pk_in (i * 4) 20 (by omega), ?_⟩
  rw [nI_clamp (by omega)]
  exact nm_e (nm_r (nI_1 i) H)
/-- mutate's second loop: the servers in lv take w -/
theorem cl_m74 {post : Int32 → St2 → Prop} (lv : Nat → Bool) (w : Int32) (hlv : ∀ j, j < 5 → lv j = true → has j = true)
    (hp : ∀ (c l : Int32) (a1 a2 a3 a4 a5 a6 a7 a8 a9 : Nat → Int32), cl_P n ver e up has vs (fun j => if lv j then w else vl j) c l a1 a2 a3 a4 a5 a6 a7 a8 a9 → post (nI (cl_ct lv 5)) (c, l, a1, a2, a3, a4, a5, a6, a7, a8, a9)) :
    ∀ (d i : Nat) (c l : Int32) (a1 a2 a3 a4 a5 a6 a7 a8 a9 : Nat → Int32), i + d = 5 → cl_P n ver e up has vs (fun j => if decide (j < i) && lv j then w else vl j) c l a1 a2 a3 a4 a5 a6 a7 a8 a9 → wX_mutate_74 post 2 0 w (cl_mk lv 5) (d + 1) (nI i) c l a1 a2 a3 a4 a5 a6 a7 a8 a9 := by
  intro d
  induction d with
  | zero =>
    intro i c l a1 a2 a3 a4 a5 a6 a7 a8 a9 hd h
    refine pk_le 5 i (fun _ => cl_bits lv (hp c l a1 a2 a3 a4 a5 a6 a7 a8 a9 (cl_Pe h (fun _ _ => rfl) (fun _ _ => rfl) (fun _ _ => rfl) (fun j hj _ => ?_)))) (fun z => absurd z (by omega))
    rw [decide_eq_true (show j < i by omega), Bool.true_and]
  | succ d ih =>
    intro i c l a1 a2 a3 a4 a5 a6 a7 a8 a9 hd h
    have hi : i < 5 := by omega
    refine pk_le 5 i (fun z => absurd z (by omega)) (fun _ => cl_br1 (cl_bit lv hi) (fun hb => cl_ownBlock h hi (hlv i hi hb) ?_) (fun hb => nm_r (nI_1 i) (ih (i + 1) c l a1 a2 a3 a4 a5 a6 a7 a8 a9 (by omega) (cl_Pe h (fun _ _ => rfl) (fun _ _ => rfl) (fun _ _ => rfl) (fun j hj _ => ?_)))))
    · have hh := hlv i hi hb
      obtain ⟨q4, q9, q6, q8⟩ := cl_q1 h hi hh
      obtain ⟨q0, q5, qx⟩ := cl_qo h hi
      have fin : ∀ a7', cl_ag i a7 a7' → cl_P n ver e up has vs (fun j => if decide (j < i + 1) && lv j then w else vl j) c l a1 a2 a3 a4 a5 (upd a6 (i * 4 * 6) w) a7' (upd a8 (i * 4) (cl_sm (upd a6 (i * 4 * 6) w) a7' (i * 4) 6)) a9 := by
        intro a7' g7
        refine cl_srv i h (fun j hj ej => ⟨rfl, rfl, fun _ => ?_⟩) (cl_ag_r _ _) (cl_ag_r _ _) (fun k hk => pk_un (by omega)) g7 (cl_ag_0 (cl_ag_r i a8)) (cl_ag_r _ _) ?_
        · rw [show decide (j < i + 1) = decide (j < i) from decide_eq_decide.mpr (by omega)]
        · rw [hh]
          refine ⟨q0, q4, q5, qx, q9, fun _ => ⟨?_, pk_us⟩⟩
          rw [pk_us, decide_eq_true (show i < i + 1 by omega), hb]
          rfl
      dsimp only
      rw [cl_c60 (show i * 4 < 20 by omega), nI_clamp (show i * 4 < 2 ^ 31 by omega)]
      exact ⟨cl_n6 (i := 0) (by omega) (by omega), nm_e ⟨pk_in (i * 4) 20 (by omega), br_c (fun _ => cl_m136 hi (ih (i + 1) _ _ _ _ _ _ _ _ _ _ _ (by omega) (fin a7 (cl_ag_r _ _)))) (fun _ => ⟨pk_in (i * 4) 20 (by omega), nm_e (cl_m136 hi (ih (i + 1) _ _ _ _ _ _ _ _ _ _ _ (by omega) (fin _ (cl_ag_0 (cl_ag_r i a7)))))⟩)⟩⟩
    · by_cases ej : j = i
      · rw [ej, hb, Bool.and_false, Bool.and_false]
      · rw [show decide (j < i + 1) = decide (j < i) from decide_eq_decide.mpr (by omega)]
/-- mutate's first loop: the servers in lv take the new version -/
theorem cl_m31 {post : Int32 → St2 → Prop} (lv : Nat → Bool) (w : Int32)
    (hp : ∀ (c l : Int32) (a1 a2 a3 a4 a5 a6 a7 a8 a9 : Nat → Int32), cl_P n ver e up has (fun j => if lv j then ver else vs j) vl c l a1 a2 a3 a4 a5 a6 a7 a8 a9 → ∃ m, wX_mutate_74 post 2 0 w (cl_mk lv 5) m 0 c l a1 a2 a3 a4 a5 a6 a7 a8 a9) :
    ∀ (d i : Nat) (c l : Int32) (a1 a2 a3 a4 a5 a6 a7 a8 a9 : Nat → Int32), i + d = 5 → cl_P n ver e up has (fun j => if decide (j < i) && lv j then ver else vs j) vl c l a1 a2 a3 a4 a5 a6 a7 a8 a9 → wX_mutate_31 post 2 0 w (cl_mk lv 5) c l (d + 1) (nI i) a1 a2 a3 a4 a5 a6 a7 a8 a9 := by
  intro d
  induction d with
  | zero =>
    intro i c l a1 a2 a3 a4 a5 a6 a7 a8 a9 hd h
    refine pk_le 5 i (fun _ => hp c l a1 a2 a3 a4 a5 a6 a7 a8 a9 (cl_Pe h (fun _ _ => rfl) (fun _ _ => rfl) (fun j hj => ?_) (fun _ _ _ => rfl))) (fun z => absurd z (by omega))
    rw [decide_eq_true (show j < i by omega), Bool.true_and]
  | succ d ih =>
    intro i c l a1 a2 a3 a4 a5 a6 a7 a8 a9 hd h
    have hi : i < 5 := by omega
    refine pk_le 5 i (fun z => absurd z (by omega)) (fun _ => cl_br1 (cl_bit lv hi) (fun hb => ?_) (fun hb => nm_r (nI_1 i) (ih (i + 1) c l a1 a2 a3 a4 a5 a6 a7 a8 a9 (by omega) (cl_Pe h (fun _ _ => rfl) (fun _ _ => rfl) (fun j hj => ?_) (fun _ _ _ => rfl)))))
    · obtain ⟨_, _, hv, _, _, _, h3, hq⟩ := id h
      obtain ⟨q0, q4, q5, qx, q9, qh⟩ := hq i hi
      rw [cl_c42 hi, cl_c2]
      refine ⟨pk_in 2 4 (by omega), cl_n4 (f := 2) hi (by omega), nm_e (nm_r (nI_1 i) (ih (i + 1) _ _ _ _ _ _ _ _ _ _ _ (by omega) (cl_srv i h (fun j hj ej => ⟨rfl, ?_, fun _ => rfl⟩) (cl_ag_r _ _) (cl_ag_u (by omega) (cl_ag_r i a5)) (cl_ah_r _ _) (cl_ag_r _ _) (cl_ag_r _ _) (cl_ag_r _ _) ?_)))⟩
      · rw [show decide (j < i + 1) = decide (j < i) from decide_eq_decide.mpr (by omega)]
      · rw [decide_eq_true (show i < i + 1 by omega), hb]
        exact ⟨q0, q4, by rw [pk_us, h3]; rfl, hv, q9, qh⟩
    · by_cases ej : j = i
      · rw [ej, hb, Bool.and_false, Bool.and_false]
      · rw [show decide (j < i + 1) = decide (j < i) from decide_eq_decide.mpr (by omega)]
theorem cl_cuh {j : Nat} (h : cl_cu e ver has vs j = true) : has j = true := by
  unfold cl_cu at h
  cases z : has j
  · rw [z] at h; exact absurd h (by simp)
  · rfl
theorem cl_mut_eq {c l : Int32} {a1 a2 a3 a4 a5 a6 a7 a8 a9 : Nat → Int32} {post : Int32 → St2 → Prop} (w : Int32) (h : cl_P n ver e up has vs vl c l a1 a2 a3 a4 a5 a6 a7 a8 a9) (hup : ∀ j, j < 5 → cl_cu e ver has vs j = true → up j = true)
    (hp : ∀ (c l : Int32) (a1 a2 a3 a4 a5 a6 a7 a8 a9 : Nat → Int32), cl_P n ver e up has vs (fun j => if cl_cu e ver has vs j then w else vl j) c l a1 a2 a3 a4 a5 a6 a7 a8 a9 → post (nI (cl_ct (cl_cu e ver has vs) 5)) (c, l, a1, a2, a3, a4, a5, a6, a7, a8, a9)) : wpX_mutate post (c, l, a1, a2, a3, a4, a5, a6, a7, a8, a9) 2 0 w := by
  unfold wpX_mutate
  dsimp only
  refine cl_currentSet h (cl_upSet h (nm_r (e' := cl_mk (cl_cu e ver has vs) 5) ?_ (br_t rfl (Exists.intro 6 (cl_m74 (cl_cu e ver has vs) w (fun j _ hc => cl_cuh hc) hp 5 0 c l a1 a2 a3 a4 a5 a6 a7 a8 a9 (by omega) (cl_Pe h (fun _ _ => rfl) (fun _ _ => rfl) (fun _ _ => rfl) (fun _ _ _ => rfl)))))))
  rw [cl_and]
  refine cl_mk_c 5 (fun j hj => ?_)
  cases hc : cl_cu e ver has vs j
  · rfl
  · rw [hup j hj hc]
    rfl
theorem cl_mut_ne {c l : Int32} {a1 a2 a3 a4 a5 a6 a7 a8 a9 : Nat → Int32} {post : Int32 → St2 → Prop} (w : Int32) (i : Nat) (h : cl_P n ver e up has vs vl c l a1 a2 a3 a4 a5 a6 a7 a8 a9) (hv : ver + 1 < 100) (hi : i < 5) (hci : cl_cu e ver has vs i = true) (hui : up i = false)
    (hp : ∀ (c l : Int32) (a1 a2 a3 a4 a5 a6 a7 a8 a9 : Nat → Int32), cl_P n (ver + 1) e up has (fun j => if cl_cu e ver has vs j && up j then ver + 1 else vs j) (fun j => if cl_cu e ver has vs j && up j then w else vl j) c l a1 a2 a3 a4 a5 a6 a7 a8 a9 → post (nI (cl_ct (fun j => cl_cu e ver has vs j && up j) 5)) (c, l, a1, a2, a3, a4, a5, a6, a7, a8, a9)) : wpX_mutate post (c, l, a1, a2, a3, a4, a5, a6, a7, a8, a9) 2 0 w := by
  unfold wpX_mutate
  dsimp only
  refine cl_currentSet h (cl_upSet h (nm_r (cl_and _ _) (br_f (fun z => ?_) (cl_newVersion ?_))))
  · have := cl_inj z hi
    rw [hci, hui] at this
    exact absurd this (by decide)
  · dsimp only
    refine Exists.intro 6 (cl_m31 (fun j => cl_cu e ver has vs j && up j) w (fun c l a1 a2 a3 a4 a5 a6 a7 a8 a9 h' => Exists.intro 6 (cl_m74 (fun j => cl_cu e ver has vs j && up j) w (fun j _ hc => ?_) hp 5 0 c l a1 a2 a3 a4 a5 a6 a7 a8 a9 (by omega) (cl_Pe h' (fun _ _ => rfl) (fun _ _ => rfl) (fun _ _ => rfl) (fun _ _ _ => rfl)))) 5 0 _ _ _ _ _ _ _ _ _ _ _ (by omega) (cl_Pe (cl_nv h hv) (fun _ _ => rfl) (fun _ _ => rfl) (fun _ _ => rfl) (fun _ _ _ => rfl)))
    cases hc' : cl_cu e ver has vs j
    · rw [hc', Bool.false_and] at hc
      exact absurd hc (by decide)
    · exact cl_cuh hc'
theorem cl_append {c l : Int32} {a1 a2 a3 a4 a5 a6 a7 a8 a9 : Nat → Int32} {post : Int32 → St2 → Prop} (v : Int32) (h : cl_P n ver true up has vs vl c l a1 a2 a3 a4 a5 a6 a7 a8 a9) (hu : up 0 = true) (hc : cl_cu true ver has vs 0 = true) (h7 : a7 0 = 0) (hup : ∀ j, j < 5 → cl_cu true ver has vs j = true → up j = true)
    (hp : ∀ (c l : Int32) (a1 a2 a3 a4 a5 a6 a7 a8 a9 : Nat → Int32), cl_P n ver true up has vs (fun j => if cl_cu true ver has vs j then v else vl j) c l a1 a2 a3 a4 a5 a6 a7 a8 a9 → post 0 (c, l, a1, a2, a3, a4, a5, a6, a7, a8, a9)) : wpX_append post (c, l, a1, a2, a3, a4, a5, a6, a7, a8, a9) 2 v := by
  obtain ⟨q4, _⟩ := cl_q1 h (j := 0) (by omega) (cl_cuh hc)
  have q4' : a4 (nI 0 * 4 + 2).toNatClampNeg = nI 0 := by
    rw [cl_c42 (by omega)]
    exact q4
  unfold wpX_append
  dsimp only
  refine cl_refusal 0 h (by omega) hu hc (fun j hj => absurd hj (by omega)) (br_t rfl (cl_source 0 h (by omega) hu hc (fun j hj => absurd hj (by omega)) ?_))
  rw [q4']
  exact ⟨cl_n4 (f := 2) (by omega) (by omega), pk_in 0 20 (by omega), nm_r (e' := 0) (by rw [nI_clamp (by omega)]; exact h7) (br_t (by decide) (cl_mut_eq v h hup hp))⟩
theorem cl_write_eq {c l : Int32} {a1 a2 a3 a4 a5 a6 a7 a8 a9 : Nat → Int32} {post : Int32 → St2 → Prop} (w : Int32) (f : Nat) (h : cl_P n ver true up has vs vl c l a1 a2 a3 a4 a5 a6 a7 a8 a9) (hf : f < 5) (hu : up f = true) (hc : cl_cu true ver has vs f = true) (hlo : ∀ j, j < f → up j = false ∨ cl_cu true ver has vs j = false) (hup : ∀ j, j < 5 → cl_cu true ver has vs j = true → up j = true)
    (hp : ∀ (c l : Int32) (a1 a2 a3 a4 a5 a6 a7 a8 a9 : Nat → Int32), cl_P n ver true up has vs (fun j => if cl_cu true ver has vs j then w else vl j) c l a1 a2 a3 a4 a5 a6 a7 a8 a9 → post (nI (cl_ct (cl_cu true ver has vs) 5)) (c, l, a1, a2, a3, a4, a5, a6, a7, a8, a9)) : wpX_write post (c, l, a1, a2, a3, a4, a5, a6, a7, a8, a9) 2 0 w := by
  unfold wpX_write
  dsimp only
  exact cl_refusal f h hf hu hc hlo (br_t rfl (br_f (by decide) (br_t (by decide) (cl_mut_eq w h hup hp))))
theorem cl_write_ne {c l : Int32} {a1 a2 a3 a4 a5 a6 a7 a8 a9 : Nat → Int32} {post : Int32 → St2 → Prop} (w : Int32) (f i : Nat) (h : cl_P n ver true up has vs vl c l a1 a2 a3 a4 a5 a6 a7 a8 a9) (hf : f < 5) (hu : up f = true) (hc : cl_cu true ver has vs f = true) (hlo : ∀ j, j < f → up j = false ∨ cl_cu true ver has vs j = false) (hv : ver + 1 < 100) (hi : i < 5) (hci : cl_cu true ver has vs i = true) (hui : up i = false)
    (hp : ∀ (c l : Int32) (a1 a2 a3 a4 a5 a6 a7 a8 a9 : Nat → Int32), cl_P n (ver + 1) true up has (fun j => if cl_cu true ver has vs j && up j then ver + 1 else vs j) (fun j => if cl_cu true ver has vs j && up j then w else vl j) c l a1 a2 a3 a4 a5 a6 a7 a8 a9 → post (nI (cl_ct (fun j => cl_cu true ver has vs j && up j) 5)) (c, l, a1, a2, a3, a4, a5, a6, a7, a8, a9)) : wpX_write post (c, l, a1, a2, a3, a4, a5, a6, a7, a8, a9) 2 0 w := by
  unfold wpX_write
  dsimp only
  exact cl_refusal f h hf hu hc hlo (br_t rfl (br_f (by decide) (br_t (by decide) (cl_mut_ne w i h hv hi hci hui hp))))
theorem cl_write_0 {c l : Int32} {a1 a2 a3 a4 a5 a6 a7 a8 a9 : Nat → Int32} {post : Int32 → St2 → Prop} (w : Int32) (h : cl_P n ver true up has vs vl c l a1 a2 a3 a4 a5 a6 a7 a8 a9) (hlo : ∀ j, j < 5 → up j = false ∨ cl_cu true ver has vs j = false) (hp : post (-5) (c, l, a1, a2, a3, a4, a5, a6, a7, a8, a9)) : wpX_write post (c, l, a1, a2, a3, a4, a5, a6, a7, a8, a9) 2 0 w := by
  unfold wpX_write
  dsimp only
  exact cl_refusal0 h hlo (br_f (by decide) hp)
theorem cl_crash {c l : Int32} {a1 a2 a3 a4 a5 a6 a7 a8 a9 : Nat → Int32} {post : Int32 → St2 → Prop} {s : Nat} (h : cl_P n ver e up has vs vl c l a1 a2 a3 a4 a5 a6 a7 a8 a9) (hs : s < 5) (hu : up s = true) (hp : ∀ a1', cl_P n ver e (fun j => up j && !(j == s)) has vs vl c l a1' a2 a3 a4 a5 a6 a7 a8 a9 → post 1 (c, l, a1', a2, a3, a4, a5, a6, a7, a8, a9)) : wpX_crash post (c, l, a1, a2, a3, a4, a5, a6, a7, a8, a9) (nI s) := by
  obtain ⟨hc, hl, hv, h1, h20, h2, h3, hq⟩ := h
  have e1 := h1 s hs
  rw [hu] at e1
  unfold wpX_crash
  dsimp only
  rw [nI_clamp (show s < 2 ^ 31 by omega), e1]
  refine cl_bs hs (br_t rfl ⟨pk_in s 5 hs, br_f (by decide) ?_⟩)
  unfold wX_crash_23
  rw [nI_clamp (show s < 2 ^ 31 by omega)]
  refine ⟨pk_in s 5 hs, nm_e (hp _ ⟨hc, hl, hv, fun j hj => ?_, h20, h2, h3, hq⟩)⟩
  dsimp only
  by_cases ej : j = s
  · rw [ej, pk_us, beq_self_eq_true, Bool.not_true, Bool.and_false]
    rfl
  · rw [pk_un ej, beq_eq_false_iff_ne.mpr ej, Bool.not_false, Bool.and_true]
    exact h1 j hj
theorem cl_r33_o {c l : Int32} {a1 a2 a3 a4 a5 a6 a7 a8 a9 : Nat → Int32} {post : Int32 → St2 → Prop} {s f m : Nat} {x2 : Int32} (h : cl_P n ver e up has vs vl c l a1 a2 a3 a4 a5 a6 a7 a8 a9) (hs : s < 5) (hf : f < 4) (hf2 : f ≠ 2) (H : ∀ a4', cl_P n ver e up has vs vl c l a1 a2 a3 a4' a5 a6 a7 a8 a9 → wX_restart_33 post (nI s) x2 m (nI (f + 1)) c l a1 a2 a3 a4' a5 a6 a7 a8 a9) : wX_restart_33 post (nI s) x2 (m + 1) (nI f) c l a1 a2 a3 a4 a5 a6 a7 a8 a9 := by
  obtain ⟨_, _, _, _, h20, _⟩ := id h
  refine pk_le 4 f (fun z => absurd z (by omega)) (fun _ => ⟨pk_in f 4 hf, br_t ?_ ?_⟩)
  · rw [nI_clamp (by omega)]
    exact h20 f hf hf2
  · unfold wX_restart_66
    exact cl_letGo_o h hs hf hf2 (fun a4' h' => nm_r (nI_1 f) (H a4' h'))
theorem cl_r33_k {c l : Int32} {a1 a2 a3 a4 a5 a6 a7 a8 a9 : Nat → Int32} {post : Int32 → St2 → Prop} {s m : Nat} {x2 : Int32} (h : cl_P n ver true up has vs vl c l a1 a2 a3 a4 a5 a6 a7 a8 a9) (hs : s < 5) (hv : vs s = ver) (H : wX_restart_33 post (nI s) x2 m (nI 3) c l a1 a2 a3 a4 a5 a6 a7 a8 a9) : wX_restart_33 post (nI s) x2 (m + 1) (nI 2) c l a1 a2 a3 a4 a5 a6 a7 a8 a9 := by
  obtain ⟨_, _, _, _, _, h2, h3, _⟩ := id h
  obtain ⟨_, q5, _⟩ := cl_qo h hs
  refine pk_le 4 2 (fun z => absurd z (by omega)) (fun _ => ?_)
  rw [cl_c4 hs (show 2 < 4 by omega), nI_clamp (show 2 < 2 ^ 31 by omega), h2, h3, q5, hv]
  exact ⟨pk_in 2 4 (by omega), br_f (by decide) ⟨cl_n4 hs (by omega), pk_in 2 4 (by omega), br_t rfl (nm_r (nI_1 2) H)⟩⟩
theorem cl_r33_d {c l : Int32} {a1 a2 a3 a4 a5 a6 a7 a8 a9 : Nat → Int32} {post : Int32 → St2 → Prop} {s m : Nat} {x2 : Int32} (h : cl_P n ver true up has vs vl c l a1 a2 a3 a4 a5 a6 a7 a8 a9) (hs : s < 5) (hv : vs s ≠ ver) (H : ∀ a4' a9', cl_P n ver true up (fun k => has k && !(k == s)) vs vl c l a1 a2 a3 a4' a5 a6 a7 a8 a9' → wX_restart_33 post (nI s) x2 m (nI 3) c l a1 a2 a3 a4' a5 a6 a7 a8 a9') : wX_restart_33 post (nI s) x2 (m + 1) (nI 2) c l a1 a2 a3 a4 a5 a6 a7 a8 a9 := by
  obtain ⟨_, _, hver, _, _, h2, h3, _⟩ := id h
  obtain ⟨_, q5, qx⟩ := cl_qo h hs
  refine pk_le 4 2 (fun z => absurd z (by omega)) (fun _ => ?_)
  rw [cl_c4 hs (show 2 < 4 by omega), nI_clamp (show 2 < 2 ^ 31 by omega), h2, h3, q5]
  refine ⟨pk_in 2 4 (by omega), br_f (by decide) ⟨cl_n4 hs (by omega), pk_in 2 4 (by omega), pk_eq (vs s) ver (fun z => absurd z hv) (fun _ => ?_)⟩⟩
  unfold wX_restart_66
  exact cl_letGo_2 h hs (fun a4' a9' h' => nm_r (nI_1 2) (H a4' a9' h'))
theorem cl_r33_e {c l : Int32} {a1 a2 a3 a4 a5 a6 a7 a8 a9 : Nat → Int32} {post : Int32 → St2 → Prop} {x1 x2 : Int32} {m : Nat} (hp : post x2 (c, l, a1, a2, a3, a4, a5, a6, a7, a8, a9)) : wX_restart_33 post x1 x2 (m + 1) (nI 4) c l a1 a2 a3 a4 a5 a6 a7 a8 a9 := pk_le 4 4 (fun _ => hp) (fun z => absurd z (by omega))
theorem cl_rst {c l : Int32} {a1 a2 a3 a4 a5 a6 a7 a8 a9 : Nat → Int32} {post : Int32 → St2 → Prop} {s : Nat} (h : cl_P n ver e up has vs vl c l a1 a2 a3 a4 a5 a6 a7 a8 a9) (hs : s < 5) (hu : up s = false) (hp : ∀ a1', cl_P n ver e (fun j => up j || (j == s)) has vs vl c l a1' a2 a3 a4 a5 a6 a7 a8 a9 → ∃ m, wX_restart_33 post (nI s) 1 m 0 c l a1' a2 a3 a4 a5 a6 a7 a8 a9) : wpX_restart post (c, l, a1, a2, a3, a4, a5, a6, a7, a8, a9) (nI s) := by
  obtain ⟨hc, hl, hv, h1, h20, h2, h3, hq⟩ := h
  have e1 := h1 s hs
  rw [hu] at e1
  unfold wpX_restart
  dsimp only
  rw [nI_clamp (show s < 2 ^ 31 by omega), e1]
  refine cl_bs hs (br_t rfl ⟨pk_in s 5 hs, br_t (by decide) ?_⟩)
  unfold wX_restart_23
  rw [nI_clamp (show s < 2 ^ 31 by omega)]
  refine ⟨pk_in s 5 hs, nm_e (hp _ ⟨hc, hl, hv, fun j hj => ?_, h20, h2, h3, hq⟩)⟩
  dsimp only
  by_cases ej : j = s
  · rw [ej, pk_us, beq_self_eq_true, Bool.or_true]
    rfl
  · rw [pk_un ej, beq_eq_false_iff_ne.mpr ej, Bool.or_false]
    exact h1 j hj
theorem cl_restart_k {c l : Int32} {a1 a2 a3 a4 a5 a6 a7 a8 a9 : Nat → Int32} {post : Int32 → St2 → Prop} {s : Nat} (h : cl_P n ver true up has vs vl c l a1 a2 a3 a4 a5 a6 a7 a8 a9) (hs : s < 5) (hu : up s = false) (hv : vs s = ver) (hp : ∀ (c l : Int32) (a1 a2 a3 a4 a5 a6 a7 a8 a9 : Nat → Int32), cl_P n ver true (fun j => up j || (j == s)) has vs vl c l a1 a2 a3 a4 a5 a6 a7 a8 a9 → post 1 (c, l, a1, a2, a3, a4, a5, a6, a7, a8, a9)) : wpX_restart post (c, l, a1, a2, a3, a4, a5, a6, a7, a8, a9) (nI s) :=
  cl_rst h hs hu (fun _ h0 => Exists.intro 5 (cl_r33_o (f := 0) h0 hs (by omega) (by omega) (fun _ h1 => cl_r33_o (f := 1) h1 hs (by omega) (by omega) (fun _ h2 => cl_r33_k h2 hs hv (cl_r33_o (f := 3) h2 hs (by omega) (by omega) (fun _ h3 => cl_r33_e (hp _ _ _ _ _ _ _ _ _ _ _ h3)))))))
theorem cl_restart_d {c l : Int32} {a1 a2 a3 a4 a5 a6 a7 a8 a9 : Nat → Int32} {post : Int32 → St2 → Prop} {s : Nat} (h : cl_P n ver true up has vs vl c l a1 a2 a3 a4 a5 a6 a7 a8 a9) (hs : s < 5) (hu : up s = false) (hv : vs s ≠ ver) (hp : ∀ (c l : Int32) (a1 a2 a3 a4 a5 a6 a7 a8 a9 : Nat → Int32), cl_P n ver true (fun j => up j || (j == s)) (fun k => has k && !(k == s)) vs vl c l a1 a2 a3 a4 a5 a6 a7 a8 a9 → post 1 (c, l, a1, a2, a3, a4, a5, a6, a7, a8, a9)) : wpX_restart post (c, l, a1, a2, a3, a4, a5, a6, a7, a8, a9) (nI s) :=
  cl_rst h hs hu (fun _ h0 => Exists.intro 5 (cl_r33_o (f := 0) h0 hs (by omega) (by omega) (fun _ h1 => cl_r33_o (f := 1) h1 hs (by omega) (by omega) (fun _ h2 => cl_r33_d h2 hs hv (fun _ _ h3 => cl_r33_o (f := 3) h3 hs (by omega) (by omega) (fun _ h4 => cl_r33_e (hp _ _ _ _ _ _ _ _ _ _ _ h4)))))))
end
end
section
theorem cl_ctN : ∀ n, n < 4 → cl_ct (fun j => decide (j < n)) 5 = n := by decide
theorem cl_ctS : ∀ n, n < 4 → ∀ s, s < n → cl_ct (fun j => decide (j < n) && !(j == s)) 5 = n - 1 := by decide
theorem cl_allN : ∀ n, n < 4 → 1 ≤ n → cl_mk (fun j => decide (j < n)) 5 = ((1 : Int32) <<< (nI n &&& 31)) - 1 := by decide +kernel
section
variable {n ver : Nat} {up has : Nat → Bool} {vs : Nat → Nat} {vl : Nat → Int32}
/-- healing a file that has enough replicas: nothing happens -/
theorem cl_h17_s {c l : Int32} {a1 a2 a3 a4 a5 a6 a7 a8 a9 : Nat → Int32} {post : Int32 → St2 → Prop} {x2 x3 : Int32} (hn : n ≤ 3) (h : cl_P n ver true up has vs vl c l a1 a2 a3 a4 a5 a6 a7 a8 a9) (hup : ∀ j, j < 5 → up j = true) (hcu : ∀ j, j < 5 → cl_cu true ver has vs j = decide (j < n)) (hp : post x3 (c, l, a1, a2, a3, a4, a5, a6, a7, a8, a9)) :
    ∀ d i, i + d = n → wX_healFile_17 post 2 x2 (d + 1) x3 (nI i) c l a1 a2 a3 a4 a5 a6 a7 a8 a9 := by
  intro d
  induction d with
  | zero =>
    intro i hd
    exact pk_le n i (fun _ => hp) (fun z => absurd z (by omega)) h.1
  | succ d ih =>
    intro i hd
    refine pk_le n i (fun z => absurd z (by omega)) (fun _ => cl_upSet h (cl_currentSet h ?_)) h.1
    rw [cl_andn, cl_and]
    refine cl_firstOf _ n h (fun j hj hb => ?_) (by omega) ?_ (fun j hj => ?_) (cl_bits _ ?_)
    · cases hc : cl_cu true ver has vs j
      · rfl
      · rw [hc, Bool.not_true, Bool.and_false] at hb
        exact hb.symm
    · rw [hup n (by omega), hcu n (by omega), decide_eq_false (by omega)]
      rfl
    · rw [hcu j (by omega), decide_eq_true hj, Bool.not_true, Bool.and_false]
    · rw [cl_ct_c (q := fun j => decide (j < n)) 5 (fun j hj => by rw [hup j hj, hcu j hj, Bool.true_and]), cl_ctN n (by omega)]
      exact pk_le n n (fun _ => nm_r (nI_1 i) (ih (i + 1) (by omega))) (fun z => absurd z (by omega)) h.1
/-- healing a file that lacks one replica, on server s: the first turn makes it -/
theorem cl_h17_1 {c l : Int32} {a1 a2 a3 a4 a5 a6 a7 a8 a9 : Nat → Int32} {post : Int32 → St2 → Prop} {x3 w : Int32} {f s m : Nat} (hn : n ≤ 3) (hs : s < n) (h : cl_P n ver true up has vs (fun _ => w) c l a1 a2 a3 a4 a5 a6 a7 a8 a9) (hup : ∀ j, j < 5 → up j = true) (hcu : ∀ j, j < 5 → cl_cu true ver has vs j = (decide (j < n) && !(j == s))) (hf : f < 5) (hfs : f ≠ s) (hhf : has f = true) (hhs : has s = false)
    (H : ∀ (c l : Int32) (a1 a2 a3 a4 a5 a6 a7 a8 a9 : Nat → Int32), cl_P n ver true up (fun j => has j || (j == s)) (fun j => if j = s then ver else vs j) (fun _ => w) c l a1 a2 a3 a4 a5 a6 a7 a8 a9 → wX_healFile_17 post 2 (nI f) m (x3 + 1) (nI 1) c l a1 a2 a3 a4 a5 a6 a7 a8 a9) : wX_healFile_17 post 2 (nI f) (m + 1) x3 (nI 0) c l a1 a2 a3 a4 a5 a6 a7 a8 a9 := by
  obtain ⟨h4, h9⟩ := cl_q0 h (j := s) (by omega) hhs
  obtain ⟨f4, f9, f6, f8⟩ := cl_q1 h hf hhf
  refine pk_le n 0 (fun z => absurd z (by omega)) (fun _ => cl_upSet h (cl_currentSet h ?_)) h.1
  rw [cl_andn, cl_and]
  refine cl_firstOf _ s h (fun j hj hb => ?_) (by omega) ?_ (fun j hj => ?_) (cl_bits _ ?_)
  · cases hc : cl_cu true ver has vs j
    · rfl
    · rw [hc, Bool.not_true, Bool.and_false] at hb
      exact hb.symm
  · rw [hup s (by omega), hcu s (by omega), beq_self_eq_true, Bool.not_true, Bool.and_false]
    rfl
  · rw [hcu j (by omega), decide_eq_true (show j < n by omega), beq_eq_false_iff_ne.mpr (show j ≠ s by omega)]
    exact Bool.and_false _
  · rw [cl_ct_c (q := fun j => decide (j < n) && !(j == s)) 5 (fun j hj => by rw [hup j hj, hcu j hj, Bool.true_and]), cl_ctS n (by omega) s hs]
    refine pk_le n (n - 1) (fun z => absurd z (by omega)) (fun _ => br_f (nI_pos (by omega)) (cl_newReplica (j := s) (by omega) h4 h9 ?_)) h.1
    dsimp only
    have e4 : upd (upd a4 (s * 4 + 2) (-1)) (s * 4 + 2) (nI (s * 4)) (nI f * 4 + 2).toNatClampNeg = nI (f * 4) := by
      rw [cl_c42 hf, pk_un (by omega), pk_un (by omega)]
      exact f4
    rw [e4]
    refine ⟨cl_n4 (f := 2) hf (by omega), cl_copyBlock (by omega) (by omega) (by omega) (fun t t0 t1 => ?_)⟩
    refine nm_e (nm_r (nI_1 0) (H _ _ _ _ _ _ _ _ _ _ _ (cl_put h (by omega) (fun j hj ej => ⟨?_, if_neg ej, fun _ => rfl⟩) ?_ (if_pos rfl) t1 (cl_ag_0 (cl_ag_r s a7)) (cl_ag_0 (cl_ag_r s a8)) ?_ ?_)))
    · rw [beq_eq_false_iff_ne.mpr ej, Bool.or_false]
    · rw [beq_self_eq_true, Bool.or_true]
    · have := t0 0 (by omega)
      rw [Nat.add_zero, Nat.add_zero, f6] at this
      exact this
    · dsimp only
      rw [pk_us, f8]
      exact (cl_sm_c 6 pk_us t0).symm
theorem cl_healFile_s {c l : Int32} {a1 a2 a3 a4 a5 a6 a7 a8 a9 : Nat → Int32} {post : Int32 → St2 → Prop} {f : Nat} (hn : n ≤ 3) (h : cl_P n ver true up has vs vl c l a1 a2 a3 a4 a5 a6 a7 a8 a9) (hup : ∀ j, j < 5 → up j = true) (hcu : ∀ j, j < 5 → cl_cu true ver has vs j = decide (j < n)) (hf : f < 5) (hc : cl_cu true ver has vs f = true) (hlo : ∀ j, j < f → up j = false ∨ cl_cu true ver has vs j = false) (hp : post 0 (c, l, a1, a2, a3, a4, a5, a6, a7, a8, a9)) : wpX_healFile post (c, l, a1, a2, a3, a4, a5, a6, a7, a8, a9) 2 := by
  unfold wpX_healFile
  dsimp only
  exact cl_source f h hf (hup f hf) hc hlo (br_t (nI_pos' (by omega)) (Exists.intro (n + 1) (cl_h17_s hn h hup hcu hp n 0 (by omega))))
theorem cl_healFile_1 {c l : Int32} {a1 a2 a3 a4 a5 a6 a7 a8 a9 : Nat → Int32} {post : Int32 → St2 → Prop} {w : Int32} {f s : Nat} (hn : n ≤ 3) (hs : s < n) (h : cl_P n ver true up has vs (fun _ => w) c l a1 a2 a3 a4 a5 a6 a7 a8 a9) (hup : ∀ j, j < 5 → up j = true) (hcu : ∀ j, j < 5 → cl_cu true ver has vs j = (decide (j < n) && !(j == s))) (hhs : has s = false) (hf : f < 5) (hfs : f ≠ s) (hc : cl_cu true ver has vs f = true) (hlo : ∀ j, j < f → up j = false ∨ cl_cu true ver has vs j = false)
    (hp : ∀ (c l : Int32) (a1 a2 a3 a4 a5 a6 a7 a8 a9 : Nat → Int32), cl_P n ver true up (fun j => has j || (j == s)) (fun j => if j = s then ver else vs j) (fun _ => w) c l a1 a2 a3 a4 a5 a6 a7 a8 a9 → post 1 (c, l, a1, a2, a3, a4, a5, a6, a7, a8, a9)) : wpX_healFile post (c, l, a1, a2, a3, a4, a5, a6, a7, a8, a9) 2 := by
  unfold wpX_healFile
  dsimp only
  refine cl_source f h hf (hup f hf) hc hlo (br_t (nI_pos' (by omega)) (Exists.intro (n + 1) (cl_h17_1 hn hs h hup hcu hf hfs (cl_cuh hc) hhs (fun c l a1 a2 a3 a4 a5 a6 a7 a8 a9 h' => ?_))))
  obtain ⟨k, hk⟩ : ∃ k, n = k + 1 := ⟨n - 1, by omega⟩
  have := cl_h17_s (post := post) (x2 := nI f) (x3 := 0 + 1) hn h' hup (fun j hj => ?_) (hp c l a1 a2 a3 a4 a5 a6 a7 a8 a9 h') k 1 (by omega)
  · rw [hk]
    exact this
  · have hj' := hcu j hj
    unfold cl_cu at hj' ⊢
    dsimp only
    by_cases ej : j = s
    · rw [ej, hhs, beq_self_eq_true, if_pos rfl, beq_self_eq_true, decide_eq_true hs]
      rfl
    · rw [if_neg ej, beq_eq_false_iff_ne.mpr ej, Bool.or_false, hj', beq_eq_false_iff_ne.mpr ej]
      exact Bool.and_true _
theorem cl_heal_o {c l : Int32} {a1 a2 a3 a4 a5 a6 a7 a8 a9 : Nat → Int32} {post : Int32 → St2 → Prop} {x1 : Int32} {f m : Nat} (h : cl_P n ver true up has vs vl c l a1 a2 a3 a4 a5 a6 a7 a8 a9) (hf : f < 4) (hf2 : f ≠ 2) (H : wX_heal_4 post m x1 (nI (f + 1)) c l a1 a2 a3 a4 a5 a6 a7 a8 a9) : wX_heal_4 post (m + 1) x1 (nI f) c l a1 a2 a3 a4 a5 a6 a7 a8 a9 := by
  obtain ⟨_, _, _, _, h20, _⟩ := id h
  refine pk_le 4 f (fun z => absurd z (by omega)) (fun _ => ⟨pk_in f 4 hf, br_t ?_ (nm_r (nI_1 f) H)⟩)
  rw [nI_clamp (by omega)]
  exact h20 f hf hf2
theorem cl_heal {up' has' : Nat → Bool} {vs' : Nat → Nat} {vl' : Nat → Int32} {c l : Int32} {a1 a2 a3 a4 a5 a6 a7 a8 a9 : Nat → Int32} {post : Int32 → St2 → Prop} {r : Int32} (h : cl_P n ver true up has vs vl c l a1 a2 a3 a4 a5 a6 a7 a8 a9)
    (hF : ∀ ψ : Int32 → St2 → Prop, (∀ (c l : Int32) (a1 a2 a3 a4 a5 a6 a7 a8 a9 : Nat → Int32), cl_P n ver true up' has' vs' vl' c l a1 a2 a3 a4 a5 a6 a7 a8 a9 → ψ r (c, l, a1, a2, a3, a4, a5, a6, a7, a8, a9)) → wpX_healFile ψ (c, l, a1, a2, a3, a4, a5, a6, a7, a8, a9) 2)
    (hp : ∀ (c l : Int32) (a1 a2 a3 a4 a5 a6 a7 a8 a9 : Nat → Int32), cl_P n ver true up' has' vs' vl' c l a1 a2 a3 a4 a5 a6 a7 a8 a9 → post r (c, l, a1, a2, a3, a4, a5, a6, a7, a8, a9)) : wpX_heal post (c, l, a1, a2, a3, a4, a5, a6, a7, a8, a9) := by
  unfold wpX_heal
  dsimp only
  refine Exists.intro 5 (cl_heal_o (f := 0) h (by omega) (by omega) (cl_heal_o (f := 1) h (by omega) (by omega) (pk_le 4 2 (fun z => absurd z (by omega)) (fun _ => ⟨pk_in 2 4 (by omega), br_f (cl_ex h) (hF _ (fun c l a1 a2 a3 a4 a5 a6 a7 a8 a9 h' => ?_))⟩))))
  dsimp only
  refine nm_r (Int32.zero_add r) (nm_r (nI_1 2) (cl_heal_o (f := 3) h' (by omega) (by omega) (pk_le 4 4 (fun _ => hp c l a1 a2 a3 a4 a5 a6 a7 a8 a9 h') (fun z => absurd z (by omega)))))
end
section
variable {c l : Int32} {a1 a2 a3 a4 a5 a6 a7 a8 a9 : Nat → Int32}
theorem cl_i116 {post : St2 → Prop} {mc ms kc ks : Nat} (H : ∀ t, (∀ k, k < 20 → t k = -1) → post (c, l, a1, a2, a3, t, a5, a6, a7, a8, a9)) : ∃ m, wX_init_116 post mc ms kc ks c l m 0 a1 a2 a3 a4 a5 a6 a7 a8 a9 := by
  refine pk_loop (fun m i s => wX_init_116 post mc ms kc ks c l m (nI i) a1 a2 a3 s a5 a6 a7 a8 a9) (fun i s => ∀ k, k < i → s k = -1) 20 0 a4 (by omega) (fun k hk => absurd hk (by omega)) (fun m s hs => pk_le 20 20 (fun _ => H s hs) (fun z => absurd z (by omega))) (fun m i s hi hs hw => pk_le 20 i (fun z => absurd z (by omega)) (fun _ => ⟨pk_in i 20 hi, nm_e (nm_r (nI_1 i) (hw _ (fun k hk => ?_)))⟩))
  rw [nI_clamp (by omega)]
  by_cases ek : k = i
  · rw [ek, pk_us]
  · rw [pk_un ek]
    exact hs k (by omega)
theorem cl_i96 {post : St2 → Prop} {mc ms kc ks : Nat} (H : ∀ u t, (∀ k, k < 5 → u k = 1) → (∀ k, k < 20 → t k = -1) → post (c, l, u, a2, a3, t, a5, a6, a7, a8, a9)) : ∃ m, wX_init_96 post mc ms kc ks c l m 0 a1 a2 a3 a4 a5 a6 a7 a8 a9 := by
  refine pk_loop (fun m i s => wX_init_96 post mc ms kc ks c l m (nI i) s a2 a3 a4 a5 a6 a7 a8 a9) (fun i s => ∀ k, k < i → s k = 1) 5 0 a1 (by omega) (fun k hk => absurd hk (by omega)) (fun m s hs => pk_le 5 5 (fun _ => cl_i116 (fun t ht => H s t hs ht)) (fun z => absurd z (by omega))) (fun m i s hi hs hw => pk_le 5 i (fun z => absurd z (by omega)) (fun _ => ⟨pk_in i 5 hi, nm_e (nm_r (nI_1 i) (hw _ (fun k hk => ?_)))⟩))
  rw [nI_clamp (by omega)]
  by_cases ek : k = i
  · rw [ek, pk_us]
  · rw [pk_un ek]
    exact hs k (by omega)
end
/-- the state behind the constructor -/
theorem cl_P0 {n : Nat} {u t : Nat → Int32} (hu : ∀ k, k < 5 → u k = 1) (ht : ∀ k, k < 20 → t k = -1) : cl_P n 0 false (fun _ => true) (fun _ => false) (fun _ => 0) (fun _ => 0) (nI n) 0 u (fun _ => 0) (fun _ => 0) t (fun _ => 0) (fun _ => 0) (fun _ => 0) (fun _ => 0) (fun _ => 0) :=
  ⟨rfl, rfl, by omega, fun j hj => hu j hj, fun _ _ _ => rfl, rfl, rfl, fun j hj => ⟨fun f hf _ => ht _ (by omega), ht _ (by omega), rfl, (show 0 < 100 by omega), rfl, fun z => absurd z (show ¬ false = true by decide)⟩⟩
theorem cl_i82 {post : St2 → Prop} {mc ms kc ks : Nat} {n : Nat} (hn : n ≤ 3) (H : ∀ (c l : Int32) (a1 a2 a3 a4 a5 a6 a7 a8 a9 : Nat → Int32), cl_P n 0 false (fun _ => true) (fun _ => false) (fun _ => 0) (fun _ => 0) c l a1 a2 a3 a4 a5 a6 a7 a8 a9 → post (c, l, a1, a2, a3, a4, a5, a6, a7, a8, a9)) : wX_init_82 post mc ms (nI n) kc ks 0 0 (fun _ => 0) (fun _ => 0) (fun _ => 0) (fun _ => 0) (fun _ => 0) (fun _ => 0) (fun _ => 0) (fun _ => 0) (fun _ => 0) := by
  unfold wX_init_82
  exact pk_le n 3 (fun _ => cl_i96 (fun u t hu ht => H _ _ _ _ _ _ _ _ _ _ _ (cl_P0 hu ht))) (fun z => absurd z (by omega))
theorem cl_init {post : St2 → Prop} {p0 : Int32} {n : Nat} (hn : 1 ≤ n ∧ n ≤ 3) (hx : (1 ≤ p0 ∧ p0 = nI n) ∨ (1 ≤ p0 ∧ ¬ p0 ≤ 3 ∧ n = 3) ∨ (¬ 1 ≤ p0 ∧ n = 1)) (H : ∀ (c l : Int32) (a1 a2 a3 a4 a5 a6 a7 a8 a9 : Nat → Int32), cl_P n 0 false (fun _ => true) (fun _ => false) (fun _ => 0) (fun _ => 0) c l a1 a2 a3 a4 a5 a6 a7 a8 a9 → post (c, l, a1, a2, a3, a4, a5, a6, a7, a8, a9)) : wpX_init post 9 233 (0, 0) p0 := by
  unfold wpX_init
  dsimp only
  refine ⟨by omega, by omega, by omega, by omega, by omega, by omega, by omega, by omega, by omega, by omega, by omega, by omega, by omega, by omega, by omega, by omega, by omega, by omega, ?_⟩
  rcases hx with ⟨h1, e⟩ | ⟨h1, h3, e⟩ | ⟨h1, e⟩
  · subst e
    exact br_t h1 (cl_i82 hn.2 H)
  · subst e
    refine br_t h1 ?_
    unfold wX_init_82
    exact br_f h3 (cl_i96 (fun u t hu ht => H _ _ _ _ _ _ _ _ _ _ _ (cl_P0 hu ht)))
  · subst e
    exact br_f h1 (cl_i82 (n := 1) (by omega) H)
end
section
theorem cl_cuN (n j : Nat) : cl_cu true 1 (fun j => decide (j < n)) (fun j => if j < n then 1 else 0) j = decide (j < n) := by
  unfold cl_cu
  dsimp only
  by_cases z : j < n
  · rw [decide_eq_true z, if_pos z]
    rfl
  · rw [decide_eq_false z]
    rfl
section
variable {n ver : Nat} {up has : Nat → Bool} {vs : Nat → Nat} {vl : Nat → Int32} {post : Int32 → St0 → Prop} {mc ms kc ks : Nat}
theorem cl_243 {c l : Int32} {a1 a2 a3 a4 a5 a6 a7 a8 a9 : Nat → Int32} {z : Int32} (hn1 : 1 ≤ n) (hn : n ≤ 3) (h : cl_P n ver true up has vs vl c l a1 a2 a3 a4 a5 a6 a7 a8 a9) (hcu : ∀ j, j < 5 → cl_cu true ver has vs j = decide (j < n)) (hp : post 1 ()) : wL_lawOf_243 post mc ms (((1 : Int32) <<< (nI n &&& 31)) - 1) z z kc ks c l a1 a2 a3 a4 a5 a6 a7 a8 a9 := by
  unfold wL_lawOf_243
  refine br_t rfl (cl_replicas h (br_t ?_ hp))
  rw [cl_mk_c 5 hcu]
  exact cl_allN n (by omega) hn1
theorem cl_218s {c l : Int32} {a1 a2 a3 a4 a5 a6 a7 a8 a9 : Nat → Int32} {x8 x9 z : Int32} (hn1 : 1 ≤ n) (hn : n ≤ 3) (hx : (x8 = 0 ∧ x9 = 0) ∨ (x8 = 1 ∧ x9 = 1)) (h : cl_P n ver true up has vs vl c l a1 a2 a3 a4 a5 a6 a7 a8 a9) (hup : ∀ j, j < 5 → up j = true) (hcu : ∀ j, j < 5 → cl_cu true ver has vs j = decide (j < n)) (hp : post 1 ()) : wL_lawOf_218 post mc ms (((1 : Int32) <<< (nI n &&& 31)) - 1) x8 x9 z z kc ks c l a1 a2 a3 a4 a5 a6 a7 a8 a9 := by
  unfold wL_lawOf_218
  refine br_t rfl (cl_heal (r := 0) h (fun ψ hψ => cl_healFile_s (f := 0) hn h hup hcu (by omega) (by rw [hcu 0 (by omega)]; exact decide_eq_true (by omega)) (fun j hj => absurd hj (by omega)) (hψ _ _ _ _ _ _ _ _ _ _ _ h)) (fun c l a1 a2 a3 a4 a5 a6 a7 a8 a9 h' => ?_))
  dsimp only
  rcases hx with ⟨e8, e9⟩ | ⟨e8, e9⟩ <;> subst e8 <;> subst e9
  · exact br_t rfl (by unfold wL_lawOf_242; exact cl_243 hn1 hn h' hcu hp)
  · exact br_f (by decide) (br_f (by decide) (by unfold wL_lawOf_242; exact cl_243 hn1 hn h' hcu hp))
theorem cl_194s {c l : Int32} {a1 a2 a3 a4 a5 a6 a7 a8 a9 : Nat → Int32} {x2 x3 x8 x9 y z : Int32} (hn1 : 1 ≤ n) (hn : n ≤ 3) (hx : (x8 = 0 ∧ x9 = 0 ∧ y = x3) ∨ (x8 = 1 ∧ x9 = 1 ∧ y = x2)) (h : cl_P n ver true up has vs (fun _ => y) c l a1 a2 a3 a4 a5 a6 a7 a8 a9) (hup : ∀ j, j < 5 → up j = true) (hcu : ∀ j, j < 5 → cl_cu true ver has vs j = decide (j < n)) (hz : z = ((1 : Int32) <<< (nI n &&& 31)) - 1) (hp : post 1 ()) : wL_lawOf_194 post mc ms x2 x3 (((1 : Int32) <<< (nI n &&& 31)) - 1) x8 x9 z kc ks c l a1 a2 a3 a4 a5 a6 a7 a8 a9 := by
  unfold wL_lawOf_194 wL_lawOf_196
  refine br_t hz (cl_read 0 h (by omega) (hup 0 (by omega)) (by rw [hcu 0 (by omega)]; exact decide_eq_true (by omega)) (fun j hj => absurd hj (by omega)) ?_)
  rcases hx with ⟨e8, e9, ey⟩ | ⟨e8, e9, ey⟩ <;> subst e8 <;> subst e9 <;> subst ey
  · exact br_t rfl (cl_218s hn1 hn (Or.inl ⟨rfl, rfl⟩) h hup hcu hp)
  · exact br_f (by decide) (cl_218s hn1 hn (Or.inr ⟨rfl, rfl⟩) h hup hcu hp)
theorem cl_218c {c l : Int32} {a1 a2 a3 a4 a5 a6 a7 a8 a9 : Nat → Int32} {z w : Int32} {f s : Nat} (hn : n ≤ 3) (hs : s < n) (h : cl_P n ver true up has vs (fun _ => w) c l a1 a2 a3 a4 a5 a6 a7 a8 a9) (hup : ∀ j, j < 5 → up j = true) (hcu : ∀ j, j < 5 → cl_cu true ver has vs j = (decide (j < n) && !(j == s))) (hhs : has s = false) (hf : f < 5) (hfs : f ≠ s) (hc : cl_cu true ver has vs f = true) (hlo : ∀ j, j < f → up j = false ∨ cl_cu true ver has vs j = false) (hp : post 1 ()) : wL_lawOf_218 post mc ms (((1 : Int32) <<< (nI n &&& 31)) - 1) 1 0 z z kc ks c l a1 a2 a3 a4 a5 a6 a7 a8 a9 := by
  unfold wL_lawOf_218
  refine br_t rfl (cl_heal (r := 1) h (fun ψ hψ => cl_healFile_1 hn hs h hup hcu hhs hf hfs hc hlo hψ) (fun c l a1 a2 a3 a4 a5 a6 a7 a8 a9 h' => ?_))
  dsimp only
  refine br_f (by decide) (br_t rfl (cl_243 (by omega) hn h' (fun j hj => ?_) hp))
  have hj' := hcu j hj
  unfold cl_cu at hj' ⊢
  dsimp only
  by_cases ej : j = s
  · rw [ej, hhs, beq_self_eq_true, if_pos rfl, beq_self_eq_true, decide_eq_true hs]
    rfl
  · rw [if_neg ej, beq_eq_false_iff_ne.mpr ej, Bool.or_false, hj', beq_eq_false_iff_ne.mpr ej]
    exact Bool.and_true _
theorem cl_196c {c l : Int32} {a1 a2 a3 a4 a5 a6 a7 a8 a9 : Nat → Int32} {x2 z z' w : Int32} {f s : Nat} (hn : n ≤ 3) (hs : s < n) (h : cl_P n ver true up has vs (fun _ => w) c l a1 a2 a3 a4 a5 a6 a7 a8 a9) (hup : ∀ j, j < 5 → up j = true) (hcu : ∀ j, j < 5 → cl_cu true ver has vs j = (decide (j < n) && !(j == s))) (hhs : has s = false) (hf : f < 5) (hfs : f ≠ s) (hc : cl_cu true ver has vs f = true) (hlo : ∀ j, j < f → up j = false ∨ cl_cu true ver has vs j = false) (hz : z' = z) (hp : post 1 ()) : wL_lawOf_196 post mc ms x2 w (((1 : Int32) <<< (nI n &&& 31)) - 1) 1 0 z z' kc ks c l a1 a2 a3 a4 a5 a6 a7 a8 a9 := by
  unfold wL_lawOf_196
  exact br_t hz (cl_read f h hf (hup f hf) hc hlo (br_t rfl (cl_218c hn hs h hup hcu hhs hf hfs hc hlo hp)))
/-- behind the write, server s crashed -/
theorem cl_148A {c l : Int32} {a1 a2 a3 a4 a5 a6 a7 a8 a9 : Nat → Int32} {x2 w : Int32} {s : Nat} (hn1 : 1 ≤ n) (hn : n ≤ 3) (hs : s < 5) (hns : n ≤ s) (h : cl_P n 1 true (fun j => !(j == s)) (fun j => decide (j < n)) (fun j => if j < n then 1 else 0) (fun _ => w) c l a1 a2 a3 a4 a5 a6 a7 a8 a9) (hp : post 1 ()) : wL_lawOf_148 post mc ms x2 w (nI s) (((1 : Int32) <<< (nI n &&& 31)) - 1) 0 0 (nI n) (nI n) kc ks c l a1 a2 a3 a4 a5 a6 a7 a8 a9 := by
  unfold wL_lawOf_148
  refine br_t rfl (cl_restart_d h hs (by rw [beq_self_eq_true]; rfl) (by rw [if_neg (by omega)]; omega) (fun c l a1 a2 a3 a4 a5 a6 a7 a8 a9 h' => ?_))
  have h1 : cl_P n 1 true (fun _ => true) (fun j => decide (j < n)) (fun j => if j < n then 1 else 0) (fun _ => w) c l a1 a2 a3 a4 a5 a6 a7 a8 a9 := cl_Pe h' (fun j hj => by
      by_cases ej : j = s
      · rw [ej, beq_self_eq_true]; rfl
      · rw [beq_eq_false_iff_ne.mpr ej]; rfl) (fun j hj => by
      by_cases ej : j = s
      · rw [ej, decide_eq_false (by omega)]; rfl
      · rw [beq_eq_false_iff_ne.mpr ej]; exact (Bool.and_true _).symm) (fun _ _ => rfl) (fun _ _ _ => rfl)
  dsimp only
  refine br_t rfl (cl_replicas h1 (br_t rfl (cl_194s hn1 hn (Or.inl ⟨rfl, rfl, rfl⟩) h1 (fun _ _ => rfl) (fun j _ => cl_cuN n j) ?_ hp)))
  rw [cl_mk_c 5 (fun j _ => cl_cuN n j)]
  exact cl_allN n (by omega) hn1
theorem cl_148B {c l : Int32} {a1 a2 a3 a4 a5 a6 a7 a8 a9 : Nat → Int32} {v x3 : Int32} (h : cl_P 1 1 true (fun j => !(j == 0)) (fun j => decide (j < 1)) (fun j => if j < 1 then 1 else 0) (fun _ => v) c l a1 a2 a3 a4 a5 a6 a7 a8 a9) (hp : post 1 ()) : wL_lawOf_148 post mc ms v x3 (nI 0) (((1 : Int32) <<< (nI 1 &&& 31)) - 1) 1 1 (-5) (-5) kc ks c l a1 a2 a3 a4 a5 a6 a7 a8 a9 := by
  unfold wL_lawOf_148
  refine br_t rfl (cl_restart_k h (by omega) rfl rfl (fun c l a1 a2 a3 a4 a5 a6 a7 a8 a9 h' => ?_))
  have h1 : cl_P 1 1 true (fun _ => true) (fun j => decide (j < 1)) (fun j => if j < 1 then 1 else 0) (fun _ => v) c l a1 a2 a3 a4 a5 a6 a7 a8 a9 := cl_Pe h' (fun j hj => by
      by_cases ej : j = 0
      · rw [ej, beq_self_eq_true]; rfl
      · rw [beq_eq_false_iff_ne.mpr ej]; rfl) (fun _ _ => rfl) (fun _ _ => rfl) (fun _ _ _ => rfl)
  dsimp only
  refine br_t rfl (cl_replicas h1 (br_f (by decide) (br_f (by decide) (cl_194s (by omega) (by omega) (Or.inr ⟨rfl, rfl, rfl⟩) h1 (fun _ _ => rfl) (fun j _ => cl_cuN 1 j) ?_ hp))))
  rw [cl_mk_c 5 (fun j _ => cl_cuN 1 j)]
  exact cl_allN 1 (by omega) (by omega)
theorem cl_148C {c l : Int32} {a1 a2 a3 a4 a5 a6 a7 a8 a9 : Nat → Int32} {v w : Int32} {f s : Nat} (hn : n ≤ 3) (hs : s < n) (hf : f < n) (hfs : f ≠ s) (hlo : ∀ j, j < f → j = s) (h : cl_P n 2 true (fun j => !(j == s)) (fun j => decide (j < n)) (fun j => if j = s then 1 else if j < n then 2 else 0) (fun j => if j = s then v else w) c l a1 a2 a3 a4 a5 a6 a7 a8 a9) (hp : post 1 ()) : wL_lawOf_148 post mc ms v w (nI s) (((1 : Int32) <<< (nI n &&& 31)) - 1) 1 0 (nI n - 1) (nI (n - 1)) kc ks c l a1 a2 a3 a4 a5 a6 a7 a8 a9 := by
  unfold wL_lawOf_148
  refine br_t (pk_sub (b := 1) (by omega)).symm (cl_restart_d h (by omega) (by rw [beq_self_eq_true]; rfl) (by rw [if_pos rfl]; omega) (fun c l a1 a2 a3 a4 a5 a6 a7 a8 a9 h' => ?_))
  have h1 : cl_P n 2 true (fun _ => true) (fun j => decide (j < n) && !(j == s)) (fun j => if j = s then 1 else if j < n then 2 else 0) (fun _ => w) c l a1 a2 a3 a4 a5 a6 a7 a8 a9 := cl_Pe h' (fun j hj => by
      by_cases ej : j = s
      · rw [ej, beq_self_eq_true]; rfl
      · rw [beq_eq_false_iff_ne.mpr ej]; rfl) (fun _ _ => rfl) (fun _ _ => rfl) (fun j _ hb => by
      by_cases ej : j = s
      · rw [ej, beq_self_eq_true, Bool.not_true, Bool.and_false] at hb
        exact absurd hb (by decide)
      · rw [if_neg ej])
  have hcu : ∀ j, j < 5 → cl_cu true 2 (fun j => decide (j < n) && !(j == s)) (fun j => if j = s then 1 else if j < n then 2 else 0) j = (decide (j < n) && !(j == s)) := by
    intro j hj
    unfold cl_cu
    dsimp only
    by_cases ej : j = s
    · rw [ej, beq_self_eq_true, Bool.not_true, Bool.and_false]
      rfl
    · by_cases z : j < n
      · rw [if_neg ej, if_pos z, Bool.true_and]
        exact Bool.and_true _
      · rw [decide_eq_false z]
        rfl
  dsimp only
  refine br_t rfl (cl_replicas h1 (br_f (by decide) (br_t rfl (cl_196c (f := f) (s := s) hn hs h1 (fun _ _ => rfl) hcu ?_ (by omega) hfs ?_ (fun j hj => Or.inr ?_) ?_ hp))))
  · rw [beq_self_eq_true, Bool.not_true, Bool.and_false]
  · rw [hcu f (by omega), decide_eq_true hf, beq_eq_false_iff_ne.mpr hfs]
    rfl
  · rw [hcu j (by omega), hlo j hj, beq_self_eq_true, Bool.not_true, Bool.and_false]
  · rw [cl_mk_c 5 hcu, ← cl_allN n (by omega) (by omega), cl_clr _ (by omega)]
/-- the law from create on -/
theorem cl_78 {c l : Int32} {a1 a2 a3 a4 a5 a6 a7 a8 a9 : Nat → Int32} {v w x8 z0 : Int32} {s : Nat} (hn1 : 1 ≤ n) (hn : n ≤ 3) (hs : s < 5) (hx : (n ≤ s ∧ x8 = 0 ∧ z0 = 0) ∨ (n = 1 ∧ s = 0 ∧ x8 = 1 ∧ z0 = 1) ∨ (s < n ∧ 2 ≤ n ∧ x8 = 1 ∧ z0 = 0)) (h : cl_P n 0 false (fun _ => true) (fun _ => false) (fun _ => 0) (fun _ => 0) c l a1 a2 a3 a4 a5 a6 a7 a8 a9) (hp : post 1 ()) : wL_lawOf_78 post mc ms v w (nI n) (nI s) (((1 : Int32) <<< (nI n &&& 31)) - 1) x8 z0 kc ks c l a1 a2 a3 a4 a5 a6 a7 a8 a9 := by
  unfold wL_lawOf_78
  refine cl_create hn1 hn h (fun c l a1 a2 a3 a4 a5 a6 a7 a8 a9 h h7 => ?_)
  dsimp only
  refine br_t rfl (cl_append v h rfl (by rw [cl_cuN]; exact decide_eq_true (by omega)) h7 (fun _ _ _ => rfl) (fun c l a1 a2 a3 a4 a5 a6 a7 a8 a9 h => ?_))
  dsimp only
  refine br_t rfl (cl_crash h hs rfl (fun a1 h => ?_))
  have h' : cl_P n 1 true (fun j => !(j == s)) (fun j => decide (j < n)) (fun j => if j < n then 1 else 0) (fun _ => v) c l a1 a2 a3 a4 a5 a6 a7 a8 a9 := cl_Pe h (fun _ _ => rfl) (fun _ _ => rfl) (fun _ _ => rfl) (fun j _ hb => by rw [cl_cuN, hb]; rfl)
  dsimp only
  refine br_t rfl ?_
  rcases hx with ⟨hns, e8, e0⟩ | ⟨en, es, e8, e0⟩ | ⟨hsn, hn2, e8, e0⟩ <;> subst e8 <;> subst e0
  · refine cl_write_eq w 0 h' (by omega) ?_ (by rw [cl_cuN]; exact decide_eq_true (by omega)) (fun j hj => absurd hj (by omega)) (fun j hj hc => ?_) (fun c l a1 a2 a3 a4 a5 a6 a7 a8 a9 h => ?_)
    · rw [beq_eq_false_iff_ne.mpr (show 0 ≠ s by omega)]
      rfl
    · rw [cl_cuN] at hc
      have := of_decide_eq_true hc
      rw [beq_eq_false_iff_ne.mpr (show j ≠ s by omega)]
      rfl
    · dsimp only
      rw [cl_ct_c 5 (fun j _ => cl_cuN n j), cl_ctN n (by omega)]
      exact br_t rfl (br_t rfl (cl_148A hn1 hn hs hns (cl_Pe h (fun _ _ => rfl) (fun _ _ => rfl) (fun _ _ => rfl) (fun j _ hb => by rw [cl_cuN, hb]; rfl)) hp))
  · subst en
    subst es
    refine cl_write_0 w h' (fun j hj => ?_) ?_
    · by_cases ej : j = 0
      · rw [ej]
        exact Or.inl rfl
      · rw [cl_cuN]
        exact Or.inr (decide_eq_false (by omega))
    · dsimp only
      exact br_f (by decide) (cl_148B h' hp)
  · have hlv : ∀ j, (cl_cu true 1 (fun j => decide (j < n)) (fun j => if j < n then 1 else 0) j && !(j == s)) = (decide (j < n) && !(j == s)) := fun j => by rw [cl_cuN]
    obtain ⟨f, hf, hfs, hlo⟩ : ∃ f, f < n ∧ f ≠ s ∧ ∀ j, j < f → j = s := by
      by_cases es : s = 0
      · exact ⟨1, by omega, by omega, fun j hj => by omega⟩
      · exact ⟨0, by omega, by omega, fun j hj => by omega⟩
    refine cl_write_ne w f s h' (by omega) ?_ (by rw [cl_cuN]; exact decide_eq_true hf) (fun j hj => Or.inl ?_) (by omega) hs (by rw [cl_cuN]; exact decide_eq_true hsn) ?_ (fun c l a1 a2 a3 a4 a5 a6 a7 a8 a9 h => ?_)
    · rw [beq_eq_false_iff_ne.mpr hfs]
      rfl
    · rw [hlo j hj, beq_self_eq_true]
      rfl
    · rw [beq_self_eq_true]
      rfl
    · dsimp only
      rw [cl_ct_c 5 (fun j _ => hlv j), cl_ctS n (by omega) s hsn]
      refine br_t rfl (br_f (by decide) (cl_148C (f := f) hn hsn hf hfs hlo (cl_Pe h (fun _ _ => rfl) (fun _ _ => rfl) (fun j _ => ?_) (fun j _ hb => ?_)) hp))
      · rw [hlv]
        by_cases ej : j = s
        · rw [if_pos ej, ej, beq_self_eq_true, Bool.not_true, Bool.and_false, if_pos hsn]
          rfl
        · rw [if_neg ej, beq_eq_false_iff_ne.mpr ej]
          by_cases z : j < n
          · rw [if_pos z, decide_eq_true z]
            rfl
          · rw [if_neg z, decide_eq_false z, Bool.false_and, if_neg (by decide), if_neg z]
      · rw [hlv, hb]
        by_cases ej : j = s
        · rw [if_pos ej, ej, beq_self_eq_true]
          rfl
        · rw [if_neg ej, beq_eq_false_iff_ne.mpr ej]
          rfl
theorem cl_29 {c l : Int32} {a1 a2 a3 a4 a5 a6 a7 a8 a9 : Nat → Int32} {x1 v w : Int32} (hn1 : 1 ≤ n) (hn : n ≤ 3) (h : cl_P n 0 false (fun _ => true) (fun _ => false) (fun _ => 0) (fun _ => 0) c l a1 a2 a3 a4 a5 a6 a7 a8 a9) (hp : post 1 ()) : wL_lawOf_29 post mc ms x1 v w (nI n) kc ks c l a1 a2 a3 a4 a5 a6 a7 a8 a9 := by
  obtain ⟨k, hk, ek⟩ := pk_andE x1 (m := 1023) 10 (by decide)
  unfold wL_lawOf_29
  refine ⟨by decide, nm_r (e' := nI (k % 5)) (by rw [ek]; exact pk_rem (d := 5) (by omega) (by omega) (by omega)) (nm_e ?_)⟩
  have hs : k % 5 < 5 := by omega
  generalize k % 5 = s at hs
  refine pk_le n s (fun hns => ?_) (fun hsn => ?_)
  · unfold wL_lawOf_60 wL_lawOf_77
    exact br_t rfl (cl_78 hn1 hn hs (Or.inl ⟨hns, rfl, rfl⟩) h hp)
  · unfold wL_lawOf_60 wL_lawOf_77
    exact br_f (by decide) (pk_eq n 1 (fun e1 => cl_78 hn1 hn hs (Or.inr (Or.inl ⟨e1, by omega, rfl, rfl⟩)) h hp) (fun e1 => cl_78 hn1 hn hs (Or.inr (Or.inr ⟨hsn, by omega, rfl, rfl⟩)) h hp))
end
theorem cl_lawOf {post : Int32 → St0 → Prop} (p0 p1 p2 p3 : Int32) (hp : post 1 ()) : wpL_lawOf post 140 2224 () p0 p1 p2 p3 := by
  unfold wpL_lawOf
  refine ⟨by omega, by omega, 9, 233, by omega, by omega, ?_⟩
  by_cases h1 : 1 ≤ p0
  · by_cases h3 : p0 ≤ 3
    · have hpos : ¬ p0 < 0 := by
        intro z
        have z1 := Int32.le_iff_toInt_le.mp h1
        have z2 := Int32.lt_iff_toInt_lt.mp z
        rw [show (1 : Int32).toInt = 1 from by decide] at z1
        rw [show (0 : Int32).toInt = 0 from by decide] at z2
        omega
      obtain ⟨n, hn, en⟩ := nI_of2 (M := 3) (n := 3) (by decide) hpos h3
      subst en
      have hn1 : 1 ≤ n := (nI_leI (a := 1) (by omega) (by omega)).mp h1
      exact cl_init ⟨hn1, hn⟩ (Or.inl ⟨h1, rfl⟩) (fun c l a1 a2 a3 a4 a5 a6 a7 a8 a9 h => br_t h1 (br_t h3 (cl_29 hn1 hn h hp)))
    · exact cl_init (n := 3) ⟨by omega, by omega⟩ (Or.inr (Or.inl ⟨h1, h3, rfl⟩)) (fun c l a1 a2 a3 a4 a5 a6 a7 a8 a9 h => br_t h1 (br_f h3 (cl_29 (n := 3) (by omega) (by omega) h hp)))
  · exact cl_init (n := 1) ⟨by omega, by omega⟩ (Or.inr (Or.inr ⟨h1, rfl⟩)) (fun c l a1 a2 a3 a4 a5 a6 a7 a8 a9 h => br_f h1 (cl_29 (n := 1) (by omega) (by omega) h hp))
theorem cl_cell {post : Int32 → Prop} {L : Nat} {xs : Nat → Int32} (k : Nat) (hL : L ≤ 4) (hk : k < 4) (H : ∀ x, post x) : wpL_cellAt post L xs () (nI k) :=
  pk_le L k (fun _ => H 0) (fun z => ⟨pk_in k L z, H _⟩)
theorem i_vc (xs : Nat → Int32) (L : Nat) (hL : L ≤ 4) : wpL_law (fun r => r = 1) L xs := by
  unfold wpL_law
  exact cl_cell 0 hL (by omega) (fun p0 => cl_cell 1 hL (by omega) (fun p1 => cl_cell 2 hL (by omega) (fun p2 => cl_cell 3 hL (by omega) (fun p3 => ⟨140, 2224, by omega, by omega, cl_lawOf p0 p1 p2 p3 rfl⟩))))
end
