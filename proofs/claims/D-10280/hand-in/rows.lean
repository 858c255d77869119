section
/-- frames: -1 or below 8 -/
def zc_F (F : Nat → Int32) : Prop := ∀ e, e < 32 → F e = -1 ∨ ∃ f : Nat, f < 8 ∧ F e = nI f
/-- flags -/
def zc_W (W : Nat → Int32) : Prop := ∀ e, e < 32 → W e = 0 ∨ W e = 1
/-- kept translations say what the entries say -/
def zc_T (k : Nat) (F W a4 a5 a6 : Nat → Int32) : Prop := ∀ j, j < k → a4 j = -1 ∨ ∃ e f : Nat, e < 32 ∧ f < 8 ∧ F e = nI f ∧ a4 j = nI e ∧ a5 j = nI f ∧ a6 j = W e
/-- the same but for those of entry x -/
def zc_TE (x k : Nat) (F W a4 a5 a6 : Nat → Int32) : Prop := ∀ j, j < k → a4 j = -1 ∨ a4 j = nI x ∨ ∃ e f : Nat, e < 32 ∧ f < 8 ∧ F e = nI f ∧ a4 j = nI e ∧ a5 j = nI f ∧ a6 j = W e
/-- the cache of n lines a way shows the memory M -/
def zc_C (n : Nat) (M a1 a7 a8 a9 : Nat → Int32) : Prop :=
  (∀ l, l < 8 → a7 l = -1 ∨ ∃ b : Nat, b < 16 ∧ a7 l = nI b ∧ (l = b % n ∨ l = 4 + b % n)) ∧
  (∀ l m b, l < 8 → m < 8 → b < 16 → a7 l = nI b → a7 m = nI b → l = m) ∧
  (∀ l b i, l < 8 → b < 16 → i < 4 → a7 l = nI b → a9 (4 * l + i) = M (4 * b + i)) ∧
  (∀ l b i, l < 8 → b < 16 → i < 4 → a7 l = nI b → a8 l = 0 → a1 (4 * b + i) = M (4 * b + i)) ∧
  (∀ b i, b < 16 → i < 4 → (∀ l, l < 8 → a7 l ≠ nI b) → a1 (4 * b + i) = M (4 * b + i))
theorem zc_m1 {b : Nat} (h : b < 2 ^ 31) : ¬ (-1 : Int32) = nI b := by
  intro e
  have h1 : (-1 : Int32) < 0 := by decide
  rw [e] at h1
  exact nI_pos h h1
theorem zc_neg : (-1 : Int32) < 0 := by decide
theorem zc_b8 : ∀ t, t < 32 → (nI t).toInt8.toInt32 = nI t := by decide +kernel
theorem zc_nbF {F : Nat → Int32} {e : Nat} (h : zc_F F) (he : e < 32) : vp_nar .byte (F e) = F e := by
  rw [vp_nar_byte]
  rcases h e he with z | ⟨f, hf, z⟩
  · rw [z]; decide
  · rw [z]; exact zc_b8 f (by omega)
theorem zc_nb0 : vp_nar .boolean 0 = 0 := by decide
theorem zc_nb1 : vp_nar .boolean 1 = 1 := by decide
theorem zc_nbW {W : Nat → Int32} {e : Nat} (h : zc_W W) (he : e < 32) : vp_nar .boolean (W e) = W e := by
  rcases h e he with z | z
  · rw [z]; exact zc_nb0
  · rw [z]; exact zc_nb1
theorem zc_eqI {a b : Nat} (ha : a < 32) (hb : b < 32) (h : nI a = nI b) : a = b := (nI_eq (by omega) (by omega)).mp h
theorem zc_F_put {F : Nat → Int32} {e f : Nat} (h : zc_F F) (hf : f < 8) : zc_F (upd F e (nI f)) := by
  intro x hx
  by_cases z : x = e
  · rw [z, pk_us]; exact Or.inr ⟨f, hf, rfl⟩
  · rw [pk_un z]; exact h x hx
theorem zc_F_off {F : Nat → Int32} {e : Nat} (h : zc_F F) : zc_F (upd F e (-1)) := by
  intro x hx
  by_cases z : x = e
  · rw [z, pk_us]; exact Or.inl rfl
  · rw [pk_un z]; exact h x hx
theorem zc_W_put {W : Nat → Int32} {e : Nat} {v : Int32} (h : zc_W W) (hv : v = 0 ∨ v = 1) : zc_W (upd W e v) := by
  intro x hx
  by_cases z : x = e
  · rw [z, pk_us]; exact hv
  · rw [pk_un z]; exact h x hx
/-- an entry changed: what is kept is right but for it -/
theorem zc_T_F {x k : Nat} {F W a4 a5 a6 F' W' : Nat → Int32} (h : zc_T k F W a4 a5 a6) (hF : ∀ e, e ≠ x → F' e = F e) (hW : ∀ e, e ≠ x → W' e = W e) : zc_TE x k F' W' a4 a5 a6 := by
  intro j hj
  rcases h j hj with z | ⟨e, f, he, hf, h1, h2, h3, h4⟩
  · exact Or.inl z
  · by_cases g : e = x
    · rw [g] at h2; exact Or.inr (Or.inl h2)
    · exact Or.inr (Or.inr ⟨e, f, he, hf, by rw [hF e g]; exact h1, h2, h3, by rw [hW e g]; exact h4⟩)
/-- a translation is taken in -/
theorem zc_T_put {k j e f : Nat} {F W a4 a5 a6 : Nat → Int32} (h : zc_T k F W a4 a5 a6) (he : e < 32) (hf : f < 8) (hF : F e = nI f) : zc_T k F W (upd a4 j (nI e)) (upd a5 j (nI f)) (upd a6 j (W e)) := by
  intro i hi
  by_cases z : i = j
  · rw [z, pk_us, pk_us, pk_us]; exact Or.inr ⟨e, f, he, hf, hF, rfl, rfl, rfl⟩
  · rw [pk_un z, pk_un z, pk_un z]; exact h i hi
theorem zc_C_evict {n l : Nat} {M a1 a7 a8 a9 a1' : Nat → Int32} (hl : l < 8) (h : zc_C n M a1 a7 a8 a9)
    (h1 : ∀ b i, b < 16 → i < 4 → a7 l ≠ nI b → a1' (4 * b + i) = a1 (4 * b + i))
    (h2 : ∀ b i, b < 16 → i < 4 → a7 l = nI b → a1' (4 * b + i) = M (4 * b + i)) :
    zc_C n M a1' (upd a7 l (-1)) (upd a8 l 0) a9 := by
  obtain ⟨hB, hU, hH, hK, hN⟩ := h
  have key : ∀ m b, b < 16 → upd a7 l (-1) m = nI b → m ≠ l ∧ a7 m = nI b := by
    intro m b hb e
    by_cases z : m = l
    · rw [z, pk_us] at e; exact absurd e (zc_m1 (by omega))
    · rw [pk_un z] at e; exact ⟨z, e⟩
  refine ⟨fun m hm => ?_, fun m m' b hm hm' hb e e' => ?_, fun m b i hm hb hi e => ?_, fun m b i hm hb hi e e0 => ?_, fun b i hb hi hno => ?_⟩
  · by_cases z : m = l
    · rw [z, pk_us]; exact Or.inl rfl
    · rw [pk_un z]; exact hB m hm
  · exact hU m m' b hm hm' hb (key m b hb e).2 (key m' b hb e').2
  · exact hH m b i hm hb hi (key m b hb e).2
  · obtain ⟨z, em⟩ := key m b hb e
    rw [pk_un z] at e0
    rw [h1 b i hb hi (fun g => z (hU m l b hm hl hb em g))]
    exact hK m b i hm hb hi em e0
  · by_cases g : a7 l = nI b
    · exact h2 b i hb hi g
    · rw [h1 b i hb hi g]
      refine hN b i hb hi (fun m hm em => ?_)
      by_cases z : m = l
      · rw [z] at em; exact g em
      · exact hno m hm (by rw [pk_un z]; exact em)
theorem zc_C_fill {n l b : Nat} {M a1 a7 a8 a9 a9' : Nat → Int32} (hl : l < 8) (hb : b < 16) (hp : l = b % n ∨ l = 4 + b % n) (h : zc_C n M a1 a7 a8 a9)
    (h0 : a7 l = -1) (hno : ∀ m, m < 8 → a7 m ≠ nI b)
    (h1 : ∀ j, (j < 4 * l ∨ 4 * l + 4 ≤ j) → a9' j = a9 j) (h2 : ∀ i, i < 4 → a9' (4 * l + i) = a1 (4 * b + i)) :
    zc_C n M a1 (upd a7 l (nI b)) a8 a9' := by
  obtain ⟨hB, hU, hH, hK, hN⟩ := h
  have key : ∀ m b', b' < 16 → upd a7 l (nI b) m = nI b' → (m = l ∧ b' = b) ∨ (m ≠ l ∧ a7 m = nI b') := by
    intro m b' hb' e
    by_cases z : m = l
    · rw [z, pk_us] at e; exact Or.inl ⟨z, (zc_eqI (by omega) (by omega) e).symm⟩
    · rw [pk_un z] at e; exact Or.inr ⟨z, e⟩
  refine ⟨fun m hm => ?_, fun m m' c hm hm' hc e e' => ?_, fun m c i hm hc hi e => ?_, fun m c i hm hc hi e e0 => ?_, fun c i hc hi hnc => ?_⟩
  · by_cases z : m = l
    · rw [z, pk_us]; exact Or.inr ⟨b, hb, rfl, hp⟩
    · rw [pk_un z]; exact hB m hm
  · rcases key m c hc e with ⟨z, g⟩ | ⟨z, g⟩ <;> rcases key m' c hc e' with ⟨z', g'⟩ | ⟨z', g'⟩
    · rw [z, z']
    · rw [g] at g'; exact absurd g' (hno m' hm')
    · rw [g'] at g; exact absurd g (hno m hm)
    · exact hU m m' c hm hm' hc g g'
  · rcases key m c hc e with ⟨z, g⟩ | ⟨z, g⟩
    · rw [z, g, h2 i hi]; exact hN b i hb hi hno
    · rw [h1 _ (by omega)]; exact hH m c i hm hc hi g
  · rcases key m c hc e with ⟨z, g⟩ | ⟨z, g⟩
    · rw [g]; exact hN b i hb hi hno
    · exact hK m c i hm hc hi g e0
  · refine hN c i hc hi (fun m hm em => ?_)
    by_cases z : m = l
    · rw [z, h0] at em; exact zc_m1 (by omega) em
    · exact hnc m hm (by rw [pk_un z]; exact em)
/-- a word of a held block is written: the line is dirty -/
theorem zc_C_write {n l b i : Nat} {M a1 a7 a8 a9 : Nat → Int32} {v : Int32} (hl : l < 8) (hb : b < 16) (hi : i < 4) (h : zc_C n M a1 a7 a8 a9) (h7 : a7 l = nI b) :
    zc_C n (upd M (4 * b + i) v) a1 a7 (upd a8 l 1) (upd a9 (4 * l + i) v) := by
  obtain ⟨hB, hU, hH, hK, hN⟩ := h
  refine ⟨hB, hU, fun m c j hm hc hj e => ?_, fun m c j hm hc hj e e0 => ?_, fun c j hc hj hnc => ?_⟩
  · by_cases z : m = l
    · have g : c = b := by rw [z, h7] at e; exact (zc_eqI (by omega) (by omega) e).symm
      subst z; subst g
      by_cases q : j = i
      · subst q; rw [pk_us, pk_us]
      · rw [pk_un (by omega), pk_un (by omega)]; exact hH m c j hm hc hj e
    · have g : c ≠ b := fun g => z (hU m l b hm hl hb (by rw [← g]; exact e) h7)
      rw [pk_un (by omega), pk_un (by omega)]; exact hH m c j hm hc hj e
  · by_cases z : m = l
    · rw [z, pk_us] at e0; exact absurd e0 (by decide)
    · have g : c ≠ b := fun g => z (hU m l b hm hl hb (by rw [← g]; exact e) h7)
      rw [pk_un z] at e0
      rw [pk_un (by omega)]; exact hK m c j hm hc hj e e0
  · have g : c ≠ b := fun g => hnc l hl (by rw [g]; exact h7)
    rw [pk_un (by omega)]; exact hN c j hc hj hnc
/-- a word of a block that no line holds is written -/
theorem zc_C_dev {n b i : Nat} {M a1 a7 a8 a9 : Nat → Int32} {v : Int32} (hi : i < 4) (h : zc_C n M a1 a7 a8 a9) (hno : ∀ l, l < 8 → a7 l ≠ nI b) :
    zc_C n (upd M (4 * b + i) v) (upd a1 (4 * b + i) v) a7 a8 a9 := by
  obtain ⟨hB, hU, hH, hK, hN⟩ := h
  refine ⟨hB, hU, fun m c j hm hc hj e => ?_, fun m c j hm hc hj e e0 => ?_, fun c j hc hj hnc => ?_⟩
  · have g : c ≠ b := fun g => hno m hm (by rw [← g]; exact e)
    rw [pk_un (by omega)]; exact hH m c j hm hc hj e
  · have g : c ≠ b := fun g => hno m hm (by rw [← g]; exact e)
    rw [pk_un (by omega), pk_un (by omega)]; exact hK m c j hm hc hj e e0
  · by_cases q : 4 * c + j = 4 * b + i
    · rw [q, pk_us, pk_us]
    · rw [pk_un q, pk_un q]; exact hN c j hc hj hnc
end
section
theorem zc_ix (l : Nat) {w : Nat} (hw : w < 64) : (4 : Int32) * nI l + (nI w &&& 3) = nI (4 * l + w % 4) := by
  have h1 : (4 : Int32) * nI l = nI (4 * l) := pk_mul 4 l
  have h2 : nI w &&& 3 = nI (w % 4) := pk_andN (by omega) 2 (by decide)
  rw [h1, h2, nI_add]
theorem zc_ix8 (f : Nat) {a : Nat} (ha : a < 64) : (8 : Int32) * nI f + (nI a &&& 7) = nI (8 * f + a % 8) := by
  have h1 : (8 : Int32) * nI f = nI (8 * f) := pk_mul 8 f
  have h2 : nI a &&& 7 = nI (a % 8) := pk_andN (by omega) 3 (by decide)
  rw [h1, h2, nI_add]
theorem zc_ip (l i : Nat) : (4 : Int32) * nI l + nI i = nI (4 * l + i) := by
  have h1 : (4 : Int32) * nI l = nI (4 * l) := pk_mul 4 l
  rw [h1, nI_add]
theorem zc_ip8 (l i : Nat) : (8 : Int32) * nI l + nI i = nI (8 * l + i) := by
  have h1 : (8 : Int32) * nI l = nI (8 * l) := pk_mul 8 l
  rw [h1, nI_add]
theorem zc_s2 {w : Nat} (hw : w < 64) : nI w >>> ((2 : Int32) &&& 31) = nI (w / 4) := pk_shrN (by omega) _ 2 (by decide)
theorem zc_s3 {w : Nat} (hw : w < 64) : nI w >>> ((3 : Int32) &&& 31) = nI (w / 8) := pk_shrN (by omega) _ 3 (by decide)
theorem zc_lw {post : Int32 → Prop} {q0 q1 q2 q3 : Int32} {M a1 a2 a3 a4 a5 a6 a7 a8 a9 a10 : Nat → Int32} {n b : Nat} (hn : 0 < n) (hn4 : n ≤ 4) (hb : b < 16) (hC : zc_C n M a1 a7 a8 a9)
    (hf : ∀ l, l < 8 → (l = b % n ∨ l = 4 + b % n) → a7 l = nI b → post (nI l)) (hm : (∀ l, l < 8 → a7 l ≠ nI b) → post (-1)) :
    wpX_lineWith post (q0, q1, q2, q3, nI n, a1, a2, a3, a4, a5, a6, a7, a8, a9, a10) (nI b) := by
  have hk : b % n < 4 := Nat.lt_of_lt_of_le (Nat.mod_lt b hn) hn4
  have e4 : (4 : Int32) + nI (b % n) = nI (4 + b % n) := nI_add 4 (b % n)
  refine ⟨nI_ne0 hn (by omega), nm_r (pk_rem (by omega) hn (by omega)) ⟨pk_in (b % n) 8 (by omega), ?_⟩⟩
  rw [e4, nI_clamp (show b % n < 2 ^ 31 by omega), nI_clamp (show 4 + b % n < 2 ^ 31 by omega)]
  refine br_c (fun h => hf _ (by omega) (Or.inl rfl) h) (fun h => ⟨pk_in (4 + b % n) 8 (by omega), br_c (fun h2 => hf _ (by omega) (Or.inr rfl) h2) (fun h2 => hm ?_)⟩)
  intro l hl e
  rcases hC.1 l hl with z | ⟨c, hc, z, p⟩
  · rw [z] at e; exact zc_m1 (by omega) e
  · have g : c = b := zc_eqI (by omega) (by omega) (z.symm.trans e)
    rw [g] at p
    rcases p with p | p
    · rw [p] at e; exact h e
    · rw [p] at e; exact h2 e
theorem zc_rd {post : Int32 → Prop} {q0 q1 q2 q3 : Int32} {M a1 a2 a3 a4 a5 a6 a7 a8 a9 a10 : Nat → Int32} {n w : Nat} (hn : 0 < n) (hn4 : n ≤ 4) (hw : w < 64) (hC : zc_C n M a1 a7 a8 a9) (hp : post (M w)) :
    wpX_deviceRead post (q0, q1, q2, q3, nI n, a1, a2, a3, a4, a5, a6, a7, a8, a9, a10) (nI w) := by
  have ew : 4 * (w / 4) + w % 4 = w := Nat.div_add_mod w 4
  refine br_f (nI_pos (by omega)) (pk_le w 63 (fun _ => ?_) (fun z => absurd z (by omega)))
  rw [zc_s2 hw]
  refine zc_lw hn hn4 (by omega) hC (fun l hl _ h7 => br_f (nI_pos (by omega)) ⟨pk_in (4 * l + w % 4) 32 (by omega) (zc_ix l hw), ?_⟩) (fun hno => br_t zc_neg ⟨pk_in w 64 hw, ?_⟩)
  · rw [zc_ix l hw, nI_clamp (by omega), hC.2.2.1 l (w / 4) (w % 4) hl (by omega) (by omega) h7, ew]
    exact hp
  · have h := hC.2.2.2.2 (w / 4) (w % 4) (by omega) (by omega) hno
    rw [ew] at h
    rw [nI_clamp (by omega), h]
    exact hp
theorem zc_ev {post : St2 → Prop} {q0 q1 q2 q3 q4 : Int32} {M a1 a2 a3 a4 a5 a6 a7 a8 a9 a10 : Nat → Int32} {n l : Nat} (hl : l < 8) (hC : zc_C n M a1 a7 a8 a9)
    (hp : ∀ s, zc_C n M s (upd a7 l (-1)) (upd a8 l 0) a9 → post (q0, q1, q2, q3, q4, s, a2, a3, a4, a5, a6, upd a7 l (-1), upd a8 l 0, a9, a10)) :
    wpX_evict post (q0, q1, q2, q3, q4, a1, a2, a3, a4, a5, a6, a7, a8, a9, a10) (nI l) := by
  have cl : (nI l).toNatClampNeg = l := nI_clamp (by omega)
  have h56 : ∀ s, zc_C n M s (upd a7 l (-1)) (upd a8 l 0) a9 → wX_evict_56 post (nI l) q0 q1 q2 q3 q4 s a2 a3 a4 a5 a6 a7 a8 a9 a10 := fun s h =>
    ⟨pk_in l 8 hl, nm_r (e' := upd a7 l (-1)) (by rw [cl]) ⟨pk_in l 8 hl, nm_r (e' := upd a8 l 0) (by rw [cl]) (hp s h)⟩⟩
  refine ⟨pk_in l 8 hl, ?_⟩
  rw [cl]
  rcases hC.1 l hl with z | ⟨b, hb, z, _⟩
  · refine br_t (by rw [z]; exact zc_neg) (h56 a1 (zc_C_evict hl hC (fun _ _ _ _ _ => rfl) (fun c i hc hi e => ?_)))
    rw [z] at e
    exact absurd e (zc_m1 (by omega))
  · refine br_f (by rw [z]; exact nI_pos (by omega)) ⟨pk_in l 8 hl, br_c (fun h8 => h56 a1 (zc_C_evict hl hC (fun _ _ _ _ _ => rfl) (fun c i hc hi e => hC.2.2.2.1 l c i hl hc hi e h8))) (fun _ => ?_)⟩
    refine pk_loop (fun m i s => wX_evict_20 post (nI l) q0 q1 q2 q3 q4 m (nI i) s a2 a3 a4 a5 a6 a7 a8 a9 a10) (fun i s => (∀ j, (j < 4 * b ∨ 4 * b + 4 ≤ j) → s j = a1 j) ∧ ∀ m, m < i → s (4 * b + m) = a9 (4 * l + m)) 4 0 a1 (by omega) ⟨fun _ _ => rfl, fun m hm => absurd hm (by omega)⟩ ?_ ?_
    · intro m s h
      refine pk_le 4 4 (fun _ => h56 s (zc_C_evict hl hC (fun c i hc hi e => ?_) (fun c i hc hi e => ?_))) (fun y => absurd y (by omega))
      · have g : c ≠ b := fun g => e (by rw [g]; exact z)
        exact h.1 _ (by omega)
      · have g : c = b := zc_eqI (by omega) (by omega) (e.symm.trans z)
        rw [g, h.2 i hi]
        exact hC.2.2.1 l b i hl hb hi z
    · intro m i s hi h hw
      have e1 : (4 : Int32) * nI l + nI i = nI (4 * l + i) := zc_ip l i
      have e2 : (4 : Int32) * a7 (nI l).toNatClampNeg + nI i = nI (4 * b + i) := by rw [cl, z]; exact zc_ip b i
      refine pk_le 4 i (fun y => absurd y (by omega)) (fun _ => ⟨pk_in l 8 hl, pk_in (4 * l + i) 32 (by omega) e1, pk_in (4 * b + i) 64 (by omega) e2, nm_r (e' := upd s (4 * b + i) (a9 (4 * l + i))) (by rw [e1, e2, nI_clamp (by omega), nI_clamp (by omega)]) (nm_r (nI_1 i) (hw _ ⟨fun j hj => ?_, fun k hk => ?_⟩))⟩)
      · rw [pk_un (by omega)]; exact h.1 j hj
      · by_cases y : k = i
        · rw [y, pk_us]
        · rw [pk_un (by omega)]; exact h.2 k (by omega)
theorem zc_b33 {post : Int32 → St2 → Prop} {q0 q1 q2 q3 q4 : Int32} {M a1 a2 a3 a4 a5 a6 a7 a8 a9 a10 : Nat → Int32} {n l b x : Nat} (hl : l < 8) (hb : b < 16) (hx : x < 4) (hp : l = b % n ∨ l = 4 + b % n) (hC : zc_C n M a1 a7 a8 a9) (hno : ∀ m, m < 8 → a7 m ≠ nI b)
    (H : ∀ l s1 s7 s8 s9 s10, l < 8 → zc_C n M s1 s7 s8 s9 → s7 l = nI b → post (nI l) (q0, q1, q2, q3, q4, s1, a2, a3, a4, a5, a6, s7, s8, s9, s10)) :
    wX_bringIn_33 post (nI b) (nI x) (nI l) q0 q1 q2 q3 q4 a1 a2 a3 a4 a5 a6 a7 a8 a9 a10 := by
  have cl : (nI l).toNatClampNeg = l := nI_clamp (by omega)
  have uu : ∀ v, upd (upd a7 l (-1)) l v = upd a7 l v := by
    intro v
    funext j
    by_cases y : j = l
    · rw [y, pk_us, pk_us]
    · rw [pk_un y, pk_un y, pk_un y]
  unfold wX_bringIn_33
  refine zc_ev hl hC (fun s1 hs => ⟨pk_in l 8 hl, nm_r (e' := upd (upd a7 l (-1)) l (nI b)) (by rw [cl, zc_b8 b (by omega)]) ?_⟩)
  refine pk_loop (fun m i s => wX_bringIn_50 post (nI b) (nI x) (nI l) q0 q1 q2 q3 q4 m (nI i) s1 a2 a3 a4 a5 a6 (upd (upd a7 l (-1)) l (nI b)) (upd a8 l 0) s a10) (fun i s => (∀ j, (j < 4 * l ∨ 4 * l + 4 ≤ j) → s j = a9 j) ∧ ∀ m, m < i → s (4 * l + m) = s1 (4 * b + m)) 4 0 a9 (by omega) ⟨fun _ _ => rfl, fun m hm => absurd hm (by omega)⟩ ?_ ?_
  · intro m s h
    refine pk_le 4 4 (fun _ => ⟨pk_in x 4 hx, nm_e (H l _ _ _ _ _ hl (zc_C_fill hl hb hp hs pk_us (fun k hk e => ?_) h.1 h.2) pk_us)⟩) (fun y => absurd y (by omega))
    by_cases y : k = l
    · rw [y, pk_us] at e; exact zc_m1 (by omega) e
    · rw [pk_un y] at e; exact hno k hk e
  · intro m i s hi h hw
    have e1 : (4 : Int32) * nI b + nI i = nI (4 * b + i) := zc_ip b i
    have e2 : (4 : Int32) * nI l + nI i = nI (4 * l + i) := zc_ip l i
    refine pk_le 4 i (fun y => absurd y (by omega)) (fun _ => ⟨pk_in (4 * b + i) 64 (by omega) e1, pk_in (4 * l + i) 32 (by omega) e2, nm_r (e' := upd s (4 * l + i) (s1 (4 * b + i))) (by rw [e1, e2, nI_clamp (by omega), nI_clamp (by omega)]) (nm_r (nI_1 i) (hw _ ⟨fun j hj => ?_, fun k hk => ?_⟩))⟩)
    · rw [pk_un (by omega)]; exact h.1 j hj
    · by_cases y : k = i
      · rw [y, pk_us]
      · rw [pk_un (by omega)]; exact h.2 k (by omega)
theorem zc_bi {post : Int32 → St2 → Prop} {q0 q1 q2 q3 : Int32} {M a1 a2 a3 a4 a5 a6 a7 a8 a9 a10 : Nat → Int32} {n b : Nat} (hn : 0 < n) (hn4 : n ≤ 4) (hb : b < 16) (hC : zc_C n M a1 a7 a8 a9)
    (H : ∀ l s1 s7 s8 s9 s10, l < 8 → zc_C n M s1 s7 s8 s9 → s7 l = nI b → post (nI l) (q0, q1, q2, q3, nI n, s1, a2, a3, a4, a5, a6, s7, s8, s9, s10)) :
    wpX_bringIn post (q0, q1, q2, q3, nI n, a1, a2, a3, a4, a5, a6, a7, a8, a9, a10) (nI b) := by
  have hk : b % n < 4 := Nat.lt_of_lt_of_le (Nat.mod_lt b hn) hn4
  have e4 : (4 : Int32) + nI (b % n) = nI (4 + b % n) := nI_add 4 (b % n)
  refine ⟨nI_ne0 hn (by omega), nm_r (pk_rem (by omega) hn (by omega)) ?_⟩
  refine zc_lw hn hn4 hb hC (fun l hl _ h7 => br_t (nI_pos' (by omega)) ⟨pk_in (b % n) 4 hk, nm_e (H l _ _ _ _ _ hl hC h7)⟩) (fun hno => br_f (by decide) ⟨pk_in (b % n) 4 hk, br_c (fun _ => ?_) (fun _ => ?_)⟩)
  · rw [e4]
    exact zc_b33 (by omega) hb hk (Or.inr rfl) hC hno H
  · exact zc_b33 (by omega) hb hk (Or.inl rfl) hC hno H
theorem zc_dw {post : Int32 → St2 → Prop} {q0 q1 q2 q3 v : Int32} {M a1 a2 a3 a4 a5 a6 a7 a8 a9 a10 : Nat → Int32} {n w : Nat} (hn : 0 < n) (hn4 : n ≤ 4) (hw : w < 64) (hC : zc_C n M a1 a7 a8 a9)
    (H : ∀ s1 s7 s8, zc_C n (upd M w v) s1 s7 s8 a9 → post 0 (q0, q1, q2, q3, nI n, s1, a2, a3, a4, a5, a6, s7, s8, a9, a10)) :
    wpX_deviceWrite post (q0, q1, q2, q3, nI n, a1, a2, a3, a4, a5, a6, a7, a8, a9, a10) (nI w) v := by
  have ew : 4 * (w / 4) + w % 4 = w := Nat.div_add_mod w 4
  have cw : (nI w).toNatClampNeg = w := nI_clamp (by omega)
  have fin : ∀ s1 s7 s8, zc_C n M s1 s7 s8 a9 → (∀ l, l < 8 → s7 l ≠ nI (w / 4)) → zc_C n (upd M w v) (upd s1 w v) s7 s8 a9 := by
    intro s1 s7 s8 h hno
    have t := zc_C_dev (b := w / 4) (i := w % 4) (v := v) (by omega) h hno
    rw [ew] at t
    exact t
  refine br_f (nI_pos (by omega)) (pk_le w 63 (fun _ => ?_) (fun z => absurd z (by omega)))
  rw [zc_s2 hw]
  refine zc_lw hn hn4 (by omega) hC (fun l hl _ h7 => br_f (nI_pos (by omega)) (zc_ev hl hC (fun s1 hs => ⟨pk_in w 64 hw, nm_r (e' := upd s1 w v) (by rw [cw]) (H _ _ _ (fin _ _ _ hs (fun m hm e => ?_)))⟩))) (fun hno => br_t zc_neg ⟨pk_in w 64 hw, nm_r (e' := upd a1 w v) (by rw [cw]) (H _ _ _ (fin _ _ _ hC hno))⟩)
  by_cases y : m = l
  · rw [y, pk_us] at e; exact zc_m1 (by omega) e
  · rw [pk_un y] at e; exact y (hC.2.1 m l (w / 4) hm hl (by omega) e h7)
end
section
/-- a state matches the picture: current c, last g, frames F, flags W, memory M -/
def zc_R (c : Nat) (g : Int32) (F W M : Nat → Int32) (u : St2) : Prop := match u with
  | (q0, q1, q2, q3, q4, a1, a2, a3, a4, a5, a6, a7, a8, a9, _) => q0 = nI c ∧ q1 = g ∧ a2 = F ∧ a3 = W ∧ (∃ k j : Nat, 0 < k ∧ k ≤ 4 ∧ j < k ∧ q2 = nI k ∧ q3 = nI j ∧ zc_T k F W a4 a5 a6) ∧ ∃ n : Nat, 0 < n ∧ n ≤ 4 ∧ q4 = nI n ∧ zc_C n M a1 a7 a8 a9
theorem zc_tr {post : Int32 → St2 → Prop} {c p : Nat} {g : Int32} {F W M : Nat → Int32} {u : St2} (hc : c < 4) (hp : p < 8) (hF : zc_F F) (hW : zc_W W) (hR : zc_R c g F W M u)
    (hm : F (8 * c + p) = -1 → ∀ u', zc_R c g F W M u' → post (-1) u')
    (hh : ∀ f i, f < 8 → F (8 * c + p) = nI f → i < 4 → ∀ u', zc_R c g F W M u' → u'.2.2.2.2.2.2.2.2.2.1 i = nI f → u'.2.2.2.2.2.2.2.2.2.2.1 i = W (8 * c + p) → post (nI i) u') :
    wpX_translation post u (nI p) := by
  obtain ⟨q0, q1, q2, q3, q4, a1, a2, a3, a4, a5, a6, a7, a8, a9, a10⟩ := u
  obtain ⟨e0, e1, e2, e3, ⟨k, j, hk, hk4, hj, ek, ej, hT⟩, hC⟩ := hR
  subst e0 e1 e2 e3 ek ej
  have he : 8 * c + p < 32 := by omega
  have ce : (nI (8 * c + p)).toNatClampNeg = 8 * c + p := nI_clamp (by omega)
  have cj : (nI j).toNatClampNeg = j := nI_clamp (by omega)
  refine nm_r (e' := nI (8 * c + p)) (zc_ip8 c p) ?_
  refine pk_loop (σ := Unit) (fun m i _ => wX_translation_12 post (nI (8 * c + p)) (nI c) q1 (nI k) (nI j) q4 a1 a2 a3 a4 a5 a6 a7 a8 a9 a10 m (nI i)) (fun _ _ => True) k 0 () (by omega) trivial ?_ ?_
  · intro m _ _
    refine pk_le k k (fun _ => ⟨pk_in (8 * c + p) 32 he, ?_⟩) (fun y => absurd y (by omega))
    rw [ce]
    rcases hF (8 * c + p) he with z | ⟨f, hf, z⟩
    · exact br_f (by rw [z]; decide) (hm z _ ⟨rfl, rfl, rfl, rfl, ⟨k, j, hk, hk4, hj, rfl, rfl, hT⟩, hC⟩)
    · have h78 : ∀ (x : Int32) (i : Nat), x = nI i → i < k → wX_translation_78 post (nI (8 * c + p)) (nI j) x (nI c) q1 (nI k) (nI j) q4 a1 a2 a3 a4 a5 a6 a7 a8 a9 a10 := by
        intro x i ex hi
        subst ex
        exact ⟨pk_in j 4 (by omega), nm_r (e' := upd a4 j (nI (8 * c + p))) (by rw [cj, zc_b8 _ he]) ⟨pk_in (8 * c + p) 32 he, pk_in j 4 (by omega), nm_r (e' := upd a5 j (nI f)) (by rw [cj, ce, zc_nbF hF he, z]) ⟨pk_in (8 * c + p) 32 he, pk_in j 4 (by omega), nm_r (e' := upd a6 j (a3 (8 * c + p))) (by rw [cj, ce, zc_nbW hW he]) (hh f j hf z (by omega) _ ⟨rfl, rfl, rfl, rfl, ⟨k, i, hk, hk4, hi, rfl, rfl, zc_T_put hT he hf z⟩, hC⟩ pk_us pk_us)⟩⟩⟩
      exact br_t (by rw [z]; exact nI_pos' (by omega)) (pk_le k (j + 1) (fun _ => h78 0 0 rfl hk) (fun y => h78 _ (j + 1) (nI_1 j) y) (hy := nI_1 j))
  · intro m i _ hi _ hw
    refine pk_le k i (fun y => absurd y (by omega)) (fun _ => ⟨pk_in i 4 (by omega), br_c (fun h => ?_) (fun _ => nm_r (nI_1 i) (hw () trivial))⟩)
    rw [nI_clamp (by omega)] at h
    rcases hT i hi with z | ⟨e, f, he', hf, h1, h2, h3, h4⟩
    · rw [z] at h; exact absurd h (zc_m1 (by omega))
    · have ee : e = 8 * c + p := zc_eqI he' he (h2.symm.trans h)
      rw [ee] at h1 h4
      exact hh f i hf h1 (by omega) _ ⟨rfl, rfl, rfl, rfl, ⟨k, j, hk, hk4, hj, rfl, rfl, hT⟩, hC⟩ h3 h4
theorem zc_tl {post : Int32 → St2 → Prop} {c a : Nat} {g : Int32} {F W M : Nat → Int32} {u : St2} (hc : c < 4) (ha : a < 64) (hF : zc_F F) (hW : zc_W W) (hR : zc_R c g F W M u)
    (hm : F (8 * c + a / 8) = -1 → ∀ u', zc_R c g F W M u' → post (-2) u')
    (hh : ∀ f, f < 8 → F (8 * c + a / 8) = nI f → ∀ u', zc_R c g F W M u' → post (nI (8 * f + a % 8)) u') :
    wpX_translate post u (nI a) := by
  obtain ⟨q0, q1, q2, q3, q4, a1, a2, a3, a4, a5, a6, a7, a8, a9, a10⟩ := u
  refine br_f (nI_pos (by omega)) (pk_le a 63 (fun _ => ?_) (fun z => absurd z (by omega)))
  rw [zc_s3 ha]
  refine zc_tr hc (by omega) hF hW hR (fun z u' h' => ?_) (fun f i hf z hi u' h' h5 h6 => ?_)
  · obtain ⟨r0, r1, r2, r3, r4, b1, b2, b3, b4, b5, b6, b7, b8, b9, b10⟩ := u'
    exact br_f (by decide) (hm z _ h')
  · obtain ⟨r0, r1, r2, r3, r4, b1, b2, b3, b4, b5, b6, b7, b8, b9, b10⟩ := u'
    have h5' : b5 i = nI f := h5
    refine br_t (nI_pos' (by omega)) ⟨pk_in i 4 hi, ?_⟩
    rw [nI_clamp (by omega), h5', zc_ix8 f ha]
    exact hh f hf z _ h'
theorem zc_ld {post : Int32 → St2 → Prop} {c a : Nat} {g : Int32} {F W M : Nat → Int32} {u : St2} (hc : c < 4) (ha : a < 64) (hF : zc_F F) (hW : zc_W W) (hR : zc_R c g F W M u)
    (hm : F (8 * c + a / 8) = -1 → ∀ u', zc_R c g F W M u' → post (-2) u')
    (hh : ∀ f, f < 8 → F (8 * c + a / 8) = nI f → ∀ u', zc_R c (M (8 * f + a % 8)) F W M u' → post 0 u') :
    wpX_load post u (nI a) := by
  obtain ⟨q0, q1, q2, q3, q4, a1, a2, a3, a4, a5, a6, a7, a8, a9, a10⟩ := u
  refine br_f (nI_pos (by omega)) (pk_le a 63 (fun _ => ?_) (fun z => absurd z (by omega)))
  rw [zc_s3 ha]
  refine zc_tr hc (by omega) hF hW hR (fun z u' h' => ?_) (fun f i hf z hi u' h' h5 h6 => ?_)
  · obtain ⟨r0, r1, r2, r3, r4, b1, b2, b3, b4, b5, b6, b7, b8, b9, b10⟩ := u'
    exact br_f (by decide) (hm z _ h')
  · obtain ⟨r0, r1, r2, r3, r4, b1, b2, b3, b4, b5, b6, b7, b8, b9, b10⟩ := u'
    have h5' : b5 i = nI f := h5
    have hw : 8 * f + a % 8 < 64 := by omega
    have H := hh f hf z
    obtain ⟨w, ew⟩ : ∃ w, w = 8 * f + a % 8 := ⟨_, rfl⟩
    rw [← ew] at hw H
    obtain ⟨e0, e1, e2, e3, eT, ⟨n, hn, hn4, en, hC⟩⟩ := h'
    subst en
    refine br_t (nI_pos' (by omega)) ⟨pk_in i 4 hi, nm_r (e' := nI w) (by rw [nI_clamp (by omega), h5', zc_ix8 f ha, ew]) ?_⟩
    rw [zc_s2 hw]
    refine zc_bi hn hn4 (by omega) hC (fun l s1 s7 s8 s9 s10 hl hs h7 => ⟨pk_in (4 * l + w % 4) 32 (by omega) (zc_ix l hw), nm_r (e' := M w) ?_ (H _ ⟨e0, rfl, e2, e3, eT, ⟨n, hn, hn4, rfl, hs⟩⟩)⟩)
    rw [zc_ix l hw, nI_clamp (by omega), hs.2.2.1 l (w / 4) (w % 4) hl (by omega) (by omega) h7, Nat.div_add_mod]
theorem zc_ch {post : Int32 → St2 → Prop} {c a : Nat} {g v t : Int32} {F W M : Nat → Int32} {u : St2} (hc : c < 4) (ha : a < 64) (hF : zc_F F) (hW : zc_W W) (hR : zc_R c g F W M u)
    (hm : F (8 * c + a / 8) = -1 → ∀ u', zc_R c g F W M u' → post (-2) u')
    (hr : ∀ f, f < 8 → F (8 * c + a / 8) = nI f → W (8 * c + a / 8) = 0 → ∀ u', zc_R c g F W M u' → post (-3) u')
    (ho : ∀ f, f < 8 → F (8 * c + a / 8) = nI f → W (8 * c + a / 8) = 1 → ∀ u', zc_R c g F W (upd M (8 * f + a % 8) (if t = 0 then v else M (8 * f + a % 8) + v)) u' → post 0 u') :
    wpX_change post u (nI a) v t := by
  obtain ⟨q0, q1, q2, q3, q4, a1, a2, a3, a4, a5, a6, a7, a8, a9, a10⟩ := u
  refine br_f (nI_pos (by omega)) (pk_le a 63 (fun _ => ?_) (fun z => absurd z (by omega)))
  rw [zc_s3 ha]
  refine zc_tr hc (by omega) hF hW hR (fun z u' h' => ?_) (fun f i hf z hi u' h' h5 h6 => ?_)
  · obtain ⟨r0, r1, r2, r3, r4, b1, b2, b3, b4, b5, b6, b7, b8, b9, b10⟩ := u'
    exact br_f (by decide) (hm z _ h')
  · obtain ⟨r0, r1, r2, r3, r4, b1, b2, b3, b4, b5, b6, b7, b8, b9, b10⟩ := u'
    have h5' : b5 i = nI f := h5
    have h6' : b6 i = W (8 * c + a / 8) := h6
    have ci : (nI i).toNatClampNeg = i := nI_clamp (by omega)
    rcases hW (8 * c + a / 8) (by omega) with y | y
    · exact br_t (nI_pos' (by omega)) ⟨pk_in i 4 hi, br_t (by rw [ci, h6', y]) (hr f hf z y _ h')⟩
    · have hw : 8 * f + a % 8 < 64 := by omega
      have H := ho f hf z y
      obtain ⟨w, ew⟩ : ∃ w, w = 8 * f + a % 8 := ⟨_, rfl⟩
      rw [← ew] at hw H
      obtain ⟨e0, e1, e2, e3, eT, ⟨n, hn, hn4, en, hC⟩⟩ := h'
      subst en
      refine br_t (nI_pos' (by omega)) ⟨pk_in i 4 hi, br_f (by rw [ci, h6', y]; decide) ⟨pk_in i 4 hi, nm_r (e' := nI w) (by rw [ci, h5', zc_ix8 f ha, ew]) ?_⟩⟩
      rw [zc_s2 hw]
      refine zc_bi hn hn4 (by omega) hC (fun l s1 s7 s8 s9 s10 hl hs h7 => nm_r (e' := nI (4 * l + w % 4)) (zc_ix l hw) ?_)
      have cx : (nI (4 * l + w % 4)).toNatClampNeg = 4 * l + w % 4 := nI_clamp (by omega)
      have h103 : ∀ x : Int32, x = (if t = 0 then v else M w + v) → wX_change_103 post (nI l) x (nI (4 * l + w % 4)) r0 r1 r2 r3 (nI n) s1 b2 b3 b4 b5 b6 s7 s8 s9 s10 := by
        intro x ex
        have hw2 := zc_C_write (b := w / 4) (i := w % 4) (v := x) hl (by omega) (by omega) hs h7
        rw [Nat.div_add_mod, ex] at hw2
        subst ex
        exact ⟨pk_in (4 * l + w % 4) 32 (by omega), nm_r (e' := upd s9 (4 * l + w % 4) (if t = 0 then v else M w + v)) (by rw [cx]) ⟨pk_in l 8 hl, nm_r (e' := upd s8 l 1) (by rw [nI_clamp (by omega)]) (H _ ⟨e0, e1, e2, e3, eT, ⟨n, hn, hn4, rfl, hw2⟩⟩)⟩⟩
      refine br_c (fun t0 => h103 _ (by rw [if_pos t0])) (fun t0 => ⟨pk_in (4 * l + w % 4) 32 (by omega), h103 _ ?_⟩)
      rw [if_neg t0, cx, hs.2.2.1 l (w / 4) (w % 4) hl (by omega) (by omega) h7, Nat.div_add_mod]
theorem zc_fg {post : St2 → Prop} {q0 q1 q3 q4 : Int32} {F W a1 a2 a3 a4 a5 a6 a7 a8 a9 a10 : Nat → Int32} {k x : Nat} (hk : k ≤ 4) (hx : x < 32) (hT : zc_TE x k F W a4 a5 a6)
    (hp : ∀ s, zc_T k F W s a5 a6 → post (q0, q1, nI k, q3, q4, a1, a2, a3, s, a5, a6, a7, a8, a9, a10)) :
    wpX_forget post (q0, q1, nI k, q3, q4, a1, a2, a3, a4, a5, a6, a7, a8, a9, a10) (nI x) := by
  refine pk_loop (fun m i s => wX_forget_2 post (nI x) q0 q1 (nI k) q3 q4 m (nI i) a1 a2 a3 s a5 a6 a7 a8 a9 a10) (fun i s => zc_TE x k F W s a5 a6 ∧ ∀ j, j < i → s j ≠ nI x) k 0 a4 (by omega) ⟨hT, fun j hj => absurd hj (by omega)⟩ ?_ ?_
  · intro m s h
    refine pk_le k k (fun _ => hp s (fun j hj => ?_)) (fun y => absurd y (by omega))
    rcases h.1 j hj with z | z | z
    · exact Or.inl z
    · exact absurd z (h.2 j hj)
    · exact Or.inr z
  · intro m i s hi h hw
    have ci : (nI i).toNatClampNeg = i := nI_clamp (by omega)
    refine pk_le k i (fun y => absurd y (by omega)) (fun _ => ⟨pk_in i 4 (by omega), br_c (fun e => ⟨pk_in i 4 (by omega), nm_r (e' := upd s i (-1)) (by rw [ci]) (nm_r (nI_1 i) (hw _ ⟨fun j hj => ?_, fun j hj => ?_⟩))⟩) (fun e => nm_r (nI_1 i) (hw _ ⟨h.1, fun j hj => ?_⟩))⟩)
    · by_cases y : j = i
      · rw [y, pk_us]; exact Or.inl rfl
      · rw [pk_un y]; exact h.1 j hj
    · by_cases y : j = i
      · rw [y, pk_us]; exact zc_m1 (by omega)
      · rw [pk_un y]; exact h.2 j (by omega)
    · by_cases y : j = i
      · rw [ci] at e
        rw [y]; exact e
      · exact h.2 j (by omega)
end
section
/-- a call answers out of the picture: one answer and one new picture for all states that match -/
def zc_D (c : Nat) (g : Int32) (F W M : Nat → Int32) (wp : (Int32 → St2 → Prop) → St2 → Prop) : Prop :=
  ∃ (r : Int32) (c' : Nat) (g' : Int32) (F' W' M' : Nat → Int32), c' < 4 ∧ zc_F F' ∧ zc_W W' ∧ ∀ (post : Int32 → St2 → Prop) (u : St2), zc_R c g F W M u → (∀ u', zc_R c' g' F' W' M' u' → post r u') → wp post u
theorem zc_enter {c s : Nat} {g : Int32} {F W M : Nat → Int32} (hs : s < 4) (hF : zc_F F) (hW : zc_W W) : zc_D c g F W M (fun post u => wpX_enter post u (nI s)) := by
  refine ⟨0, s, g, F, W, M, hs, hF, hW, fun post u hR hp => ?_⟩
  obtain ⟨q0, q1, q2, q3, q4, a1, a2, a3, a4, a5, a6, a7, a8, a9, a10⟩ := u
  obtain ⟨e0, e1⟩ := hR
  exact br_f (nI_pos (by omega)) (pk_le s 3 (fun _ => hp _ ⟨rfl, e1⟩) (fun z => absurd z (by omega)))
theorem zc_isP {post : Int32 → Prop} {s p : Nat} {u : St2} (hs : s < 4) (hp : p < 8) (h : post 1) : wpX_isPage post u (nI s) (nI p) := by
  obtain ⟨q0, q1, q2, q3, q4, a1, a2, a3, a4, a5, a6, a7, a8, a9, a10⟩ := u
  exact br_f (nI_pos (by omega)) (pk_lt 3 s (fun z => absurd z (by omega)) (fun _ => br_f (nI_pos (by omega)) (pk_lt 7 p (fun z => absurd z (by omega)) (fun _ => h))))
theorem zc_map {c s p f : Nat} {g w : Int32} {F W M : Nat → Int32} (hc : c < 4) (hs : s < 4) (hp : p < 8) (hf : f < 8) (hw : w = 0 ∨ w = 1) (hF : zc_F F) (hW : zc_W W) : zc_D c g F W M (fun post u => wpX_map post u (nI s) (nI p) (nI f) w) := by
  have he : 8 * s + p < 32 := by omega
  have ce : (nI (8 * s + p)).toNatClampNeg = 8 * s + p := nI_clamp (by omega)
  have ew : vp_nar .boolean w = w := by
    rcases hw with z | z
    · rw [z]; exact zc_nb0
    · rw [z]; exact zc_nb1
  have key : ∀ (post : Int32 → St2 → Prop) (r q0 q1 q2 q3 q4 : Int32) (a1 a2 a3 a4 a5 a6 a7 a8 a9 a10 : Nat → Int32), zc_R c g F W M (q0, q1, q2, q3, q4, a1, a2, a3, a4, a5, a6, a7, a8, a9, a10) → (∀ u', zc_R c g (upd F (8 * s + p) (nI f)) (upd W (8 * s + p) w) M u' → post r u') → wX_map_44 post (nI f) w (nI (8 * s + p)) r q0 q1 q2 q3 q4 a1 a2 a3 a4 a5 a6 a7 a8 a9 a10 := by
    intro post r q0 q1 q2 q3 q4 a1 a2 a3 a4 a5 a6 a7 a8 a9 a10 hR hq
    obtain ⟨e0, e1, e2, e3, ⟨k, j, hk, hk4, hj, ek, ej, hT⟩, hC⟩ := hR
    subst e0 e1 e2 e3 ek ej
    exact ⟨pk_in (8 * s + p) 32 he, nm_r (e' := upd a2 (8 * s + p) (nI f)) (by rw [ce, zc_b8 f (by omega)]) ⟨pk_in (8 * s + p) 32 he, nm_r (e' := upd a3 (8 * s + p) w) (by rw [ce, ew]) (zc_fg hk4 he (zc_T_F hT (fun e z => pk_un z) (fun e z => pk_un z)) (fun t ht => hq _ ⟨rfl, rfl, rfl, rfl, ⟨k, j, hk, hk4, hj, rfl, rfl, ht⟩, hC⟩))⟩⟩
  have pre : ∀ (post : Int32 → St2 → Prop) (r : Int32) (u : St2), (0 ≤ F (8 * s + p) ∧ r = 1 ∨ ¬ 0 ≤ F (8 * s + p) ∧ r = 0) → zc_R c g F W M u → (∀ u', zc_R c g (upd F (8 * s + p) (nI f)) (upd W (8 * s + p) w) M u' → post r u') → wpX_map post u (nI s) (nI p) (nI f) w := by
    intro post r u hr hR hq
    obtain ⟨q0, q1, q2, q3, q4, a1, a2, a3, a4, a5, a6, a7, a8, a9, a10⟩ := u
    have e2 : a2 = F := hR.2.2.1
    unfold wpX_map
    dsimp only
    refine zc_isP hs hp ?_
    refine br_f (by decide) (br_f (nI_pos (by omega)) (pk_le f 7 (fun _ => nm_r (e' := nI (8 * s + p)) (zc_ip8 s p) ⟨pk_in (8 * s + p) 32 he, ?_⟩) (fun z => absurd z (by omega))))
    rw [ce, e2]
    rw [e2] at hR
    rcases hr with ⟨z, zr⟩ | ⟨z, zr⟩
    · exact br_t z (key post 1 _ _ _ _ _ _ _ _ _ _ _ _ _ _ _ hR (by rw [← zr]; exact hq))
    · exact br_f z (key post 0 _ _ _ _ _ _ _ _ _ _ _ _ _ _ _ hR (by rw [← zr]; exact hq))
  by_cases z : 0 ≤ F (8 * s + p)
  · exact ⟨1, c, g, _, _, M, hc, zc_F_put hF hf, zc_W_put hW hw, fun post u => pre post 1 u (Or.inl ⟨z, rfl⟩)⟩
  · exact ⟨0, c, g, _, _, M, hc, zc_F_put hF hf, zc_W_put hW hw, fun post u => pre post 0 u (Or.inr ⟨z, rfl⟩)⟩
theorem zc_unmap {c s p : Nat} {g : Int32} {F W M : Nat → Int32} (hc : c < 4) (hs : s < 4) (hp : p < 8) (hF : zc_F F) (hW : zc_W W) : zc_D c g F W M (fun post u => wpX_unmap post u (nI s) (nI p)) := by
  have he : 8 * s + p < 32 := by omega
  have ce : (nI (8 * s + p)).toNatClampNeg = 8 * s + p := nI_clamp (by omega)
  by_cases z : 0 ≤ F (8 * s + p)
  · refine ⟨0, c, g, upd F (8 * s + p) (-1), W, M, hc, zc_F_off hF, hW, fun post u hR hq => ?_⟩
    obtain ⟨q0, q1, q2, q3, q4, a1, a2, a3, a4, a5, a6, a7, a8, a9, a10⟩ := u
    obtain ⟨e0, e1, e2, e3, ⟨k, j, hk, hk4, hj, ek, ej, hT⟩, hC⟩ := hR
    subst e0 e1 e2 e3 ek ej
    unfold wpX_unmap
    dsimp only
    refine zc_isP hs hp ?_
    exact (br_f (by decide) (nm_r (e' := nI (8 * s + p)) (zc_ip8 s p) ⟨pk_in (8 * s + p) 32 he, br_t (by rw [ce]; exact z) ⟨pk_in (8 * s + p) 32 he, nm_r (e' := upd a2 (8 * s + p) (-1)) (by rw [ce]) (zc_fg hk4 he (zc_T_F hT (fun e z => pk_un z) (fun e z => rfl)) (fun t ht => hq _ ⟨rfl, rfl, rfl, rfl, ⟨k, j, hk, hk4, hj, rfl, rfl, ht⟩, hC⟩))⟩⟩))
  · refine ⟨-2, c, g, F, W, M, hc, hF, hW, fun post u hR hq => ?_⟩
    obtain ⟨q0, q1, q2, q3, q4, a1, a2, a3, a4, a5, a6, a7, a8, a9, a10⟩ := u
    have e2 : a2 = F := hR.2.2.1
    unfold wpX_unmap
    dsimp only
    refine zc_isP hs hp ?_
    exact (br_f (by decide) (nm_r (e' := nI (8 * s + p)) (zc_ip8 s p) ⟨pk_in (8 * s + p) 32 he, br_f (by rw [ce, e2]; exact z) (hq _ hR)⟩))
theorem zc_prL {c f : Nat} {g : Int32} {F M : Nat → Int32} : ∀ d, d ≤ 32 → ∀ (W : Nat → Int32) (x : Int32), zc_W W → ∃ (r : Int32) (W' : Nat → Int32), zc_W W' ∧ ∀ (post : Int32 → St2 → Prop) (q0 q1 q2 q3 q4 : Int32) (a1 a2 a3 a4 a5 a6 a7 a8 a9 a10 : Nat → Int32), zc_R c g F W M (q0, q1, q2, q3, q4, a1, a2, a3, a4, a5, a6, a7, a8, a9, a10) → (∀ u', zc_R c g F W' M u' → post r u') → wX_protect_16 post (nI f) (d + 1) x (nI (32 - d)) q0 q1 q2 q3 q4 a1 a2 a3 a4 a5 a6 a7 a8 a9 a10 := by
  intro d
  induction d with
  | zero =>
    intro _ W x hW
    exact ⟨x, W, hW, fun post q0 q1 q2 q3 q4 a1 a2 a3 a4 a5 a6 a7 a8 a9 a10 hR hq => pk_le 32 32 (fun _ => hq _ hR) (fun z => absurd z (by omega))⟩
  | succ d ih =>
    intro hd W x hW
    have he : 32 - (d + 1) < 32 := by omega
    have e1 : nI (32 - (d + 1)) + 1 = nI (32 - d) := by
      rw [nI_1]
      exact congrArg nI (by omega)
    obtain ⟨e, ee⟩ : ∃ e, e = 32 - (d + 1) := ⟨_, rfl⟩
    rw [← ee] at he e1
    have ce : (nI e).toNatClampNeg = e := nI_clamp (by omega)
    by_cases z : F e = nI f
    · by_cases y : W e = 0
      · obtain ⟨r, W', hW', ih'⟩ := ih (by omega) W x hW
        refine ⟨r, W', hW', fun post q0 q1 q2 q3 q4 a1 a2 a3 a4 a5 a6 a7 a8 a9 a10 hR hq => ?_⟩
        rw [← ee]
        have e2 : a2 = F := hR.2.2.1
        have e3 : a3 = W := hR.2.2.2.1
        exact pk_le 32 e (fun t => absurd t (by omega)) (fun _ => ⟨pk_in e 32 he, br_t (by rw [ce, e2]; exact z) ⟨pk_in e 32 he, br_t (by rw [ce, e3]; exact y) (nm_r e1 (ih' post _ _ _ _ _ _ _ _ _ _ _ _ _ _ _ hR hq))⟩⟩)
      · obtain ⟨r, W', hW', ih'⟩ := ih (by omega) (upd W e 0) (x + 1) (zc_W_put hW (Or.inl rfl))
        refine ⟨r, W', hW', fun post q0 q1 q2 q3 q4 a1 a2 a3 a4 a5 a6 a7 a8 a9 a10 hR hq => ?_⟩
        rw [← ee]
        obtain ⟨e0, e10, e2, e3, ⟨k, j, hk, hk4, hj, ek, ej, hT⟩, hC⟩ := hR
        subst e0 e10 e2 e3 ek ej
        exact pk_le 32 e (fun t => absurd t (by omega)) (fun _ => ⟨pk_in e 32 he, br_t (by rw [ce]; exact z) ⟨pk_in e 32 he, br_f (by rw [ce]; exact y) ⟨pk_in e 32 he, nm_r (e' := upd a3 e 0) (by rw [ce]) (zc_fg hk4 he (zc_T_F hT (fun _ _ => rfl) (fun e z => pk_un z)) (fun t ht => nm_e (nm_r e1 (ih' post _ _ _ _ _ _ _ _ _ _ _ _ _ _ _ ⟨rfl, rfl, rfl, rfl, ⟨k, j, hk, hk4, hj, rfl, rfl, ht⟩, hC⟩ hq))))⟩⟩⟩)
    · obtain ⟨r, W', hW', ih'⟩ := ih (by omega) W x hW
      refine ⟨r, W', hW', fun post q0 q1 q2 q3 q4 a1 a2 a3 a4 a5 a6 a7 a8 a9 a10 hR hq => ?_⟩
      rw [← ee]
      have e2 : a2 = F := hR.2.2.1
      exact pk_le 32 e (fun t => absurd t (by omega)) (fun _ => ⟨pk_in e 32 he, br_f (by rw [ce, e2]; exact z) (nm_r e1 (ih' post _ _ _ _ _ _ _ _ _ _ _ _ _ _ _ hR hq))⟩)
theorem zc_protect {c f : Nat} {g : Int32} {F W M : Nat → Int32} (hc : c < 4) (hf : f < 8) (hF : zc_F F) (hW : zc_W W) : zc_D c g F W M (fun post u => wpX_protect post u (nI f)) := by
  obtain ⟨r, W', hW', h⟩ := zc_prL (c := c) (f := f) (g := g) (F := F) (M := M) 32 (by omega) W 0 hW
  refine ⟨r, c, g, F, W', M, hc, hF, hW', fun post u hR hq => ?_⟩
  obtain ⟨q0, q1, q2, q3, q4, a1, a2, a3, a4, a5, a6, a7, a8, a9, a10⟩ := u
  exact br_f (nI_pos (by omega)) (pk_le f 7 (fun _ => ⟨33, h post _ _ _ _ _ _ _ _ _ _ _ _ _ _ _ hR hq⟩) (fun z => absurd z (by omega)))
theorem zc_dwD {c w : Nat} {g v : Int32} {F W M : Nat → Int32} (hc : c < 4) (hw : w < 64) (hF : zc_F F) (hW : zc_W W) : zc_D c g F W M (fun post u => wpX_deviceWrite post u (nI w) v) := by
  refine ⟨0, c, g, F, W, upd M w v, hc, hF, hW, fun post u hR hq => ?_⟩
  obtain ⟨q0, q1, q2, q3, q4, a1, a2, a3, a4, a5, a6, a7, a8, a9, a10⟩ := u
  obtain ⟨e0, e1, e2, e3, eT, ⟨n, hn, hn4, en, hC⟩⟩ := hR
  subst en
  exact zc_dw hn hn4 hw hC (fun s1 s7 s8 hs => hq _ ⟨e0, e1, e2, e3, eT, ⟨n, hn, hn4, rfl, hs⟩⟩)
theorem zc_dcL {c a b t : Nat} {g : Int32} {F W : Nat → Int32} (ha : a + t ≤ 64) (hb : b + t ≤ 64) : ∀ d, d ≤ t → ∀ (M : Nat → Int32), ∃ (M' : Nat → Int32), ∀ (post : Int32 → St2 → Prop) (q0 q1 q2 q3 q4 : Int32) (a1 a2 a3 a4 a5 a6 a7 a8 a9 a10 : Nat → Int32), zc_R c g F W M (q0, q1, q2, q3, q4, a1, a2, a3, a4, a5, a6, a7, a8, a9, a10) → (∀ u', zc_R c g F W M' u' → post (nI t) u') → wX_deviceCopy_47 post (nI a) (nI b) (nI t) (d + 1) (nI (t - d)) q0 q1 q2 q3 q4 a1 a2 a3 a4 a5 a6 a7 a8 a9 a10 := by
  intro d
  induction d with
  | zero =>
    intro _ M
    exact ⟨M, fun post q0 q1 q2 q3 q4 a1 a2 a3 a4 a5 a6 a7 a8 a9 a10 hR hq => pk_le t t (fun _ => hq _ hR) (fun z => absurd z (by omega))⟩
  | succ d ih =>
    intro hd M
    have hi : t - (d + 1) < t := by omega
    have e1 : nI (t - (d + 1)) + 1 = nI (t - d) := by
      rw [nI_1]
      exact congrArg nI (by omega)
    obtain ⟨i, ei⟩ : ∃ i, i = t - (d + 1) := ⟨_, rfl⟩
    rw [← ei] at hi e1
    obtain ⟨M', ih'⟩ := ih (by omega) (upd M (b + i) (M (a + i)))
    refine ⟨M', fun post q0 q1 q2 q3 q4 a1 a2 a3 a4 a5 a6 a7 a8 a9 a10 hR hq => ?_⟩
    rw [← ei]
    obtain ⟨e0, e10, e2, e3, eT, ⟨n, hn, hn4, en, hC⟩⟩ := hR
    subst en
    refine pk_le t i (fun z => absurd z (by omega)) (fun _ => ?_)
    rw [nI_add a i, nI_add b i]
    exact zc_rd hn hn4 (by omega) hC (zc_dw hn hn4 (by omega) hC (fun s1 s7 s8 hs => nm_r e1 (ih' post _ _ _ _ _ _ _ _ _ _ _ _ _ _ _ ⟨e0, e10, e2, e3, eT, ⟨n, hn, hn4, rfl, hs⟩⟩ hq)))
theorem zc_dcD {c a b t : Nat} {g : Int32} {F W M : Nat → Int32} (hc : c < 4) (ha : a < 64) (hb : b < 64) (ht : t < 16) (hF : zc_F F) (hW : zc_W W) : zc_D c g F W M (fun post u => wpX_deviceCopy post u (nI a) (nI b) (nI t)) := by
  have ea : (64 : Int32) - nI a = nI (64 - a) := pk_sub (a := 64) (by omega)
  have eb : (64 : Int32) - nI b = nI (64 - b) := pk_sub (a := 64) (by omega)
  by_cases h : a + t ≤ 64 ∧ b + t ≤ 64
  · obtain ⟨M', hM⟩ := zc_dcL (c := c) (g := g) (F := F) (W := W) h.1 h.2 t (by omega) M
    refine ⟨nI t, c, g, F, W, M', hc, hF, hW, fun post u hR hq => ?_⟩
    obtain ⟨q0, q1, q2, q3, q4, a1, a2, a3, a4, a5, a6, a7, a8, a9, a10⟩ := u
    have hM' := hM post _ _ _ _ _ _ _ _ _ _ _ _ _ _ _ hR hq
    rw [Nat.sub_self] at hM'
    exact br_f (nI_pos (by omega)) (br_f (nI_pos (by omega)) (br_t (nI_pos' (by omega)) (pk_lt 64 a (fun z => absurd z (by omega)) (fun _ => pk_lt 64 b (fun z => absurd z (by omega)) (fun _ => pk_lt (64 - a) t (fun z => absurd z (by omega)) (fun _ => pk_le t (64 - b) (fun _ => ⟨t + 1, hM'⟩) (fun z => absurd z (by omega)) (hy := eb)) (hx := ea))))))
  · refine ⟨-1, c, g, F, W, M, hc, hF, hW, fun post u hR hq => ?_⟩
    obtain ⟨q0, q1, q2, q3, q4, a1, a2, a3, a4, a5, a6, a7, a8, a9, a10⟩ := u
    exact br_f (nI_pos (by omega)) (br_f (nI_pos (by omega)) (br_t (nI_pos' (by omega)) (pk_lt 64 a (fun z => absurd z (by omega)) (fun _ => pk_lt 64 b (fun z => absurd z (by omega)) (fun _ => pk_lt (64 - a) t (fun _ => hq _ hR) (fun _ => pk_le t (64 - b) (fun _ => absurd h (by omega)) (fun _ => hq _ hR) (hy := eb)) (hx := ea))))))
theorem zc_add {c a : Nat} {g v : Int32} {F W M : Nat → Int32} (hc : c < 4) (ha : a < 64) (hF : zc_F F) (hW : zc_W W) : zc_D c g F W M (fun post u => wpX_add post u (nI a) v) := by
  rcases hF (8 * c + a / 8) (by omega) with z | ⟨f, hf, z⟩
  · refine ⟨-2, c, g, F, W, M, hc, hF, hW, fun post u hR hq => ?_⟩
    obtain ⟨q0, q1, q2, q3, q4, a1, a2, a3, a4, a5, a6, a7, a8, a9, a10⟩ := u
    exact zc_ch hc ha hF hW hR (fun _ u' h' => hq u' h') (fun f hf y => absurd (z.symm.trans y) (zc_m1 (by omega))) (fun f hf y => absurd (z.symm.trans y) (zc_m1 (by omega)))
  · rcases hW (8 * c + a / 8) (by omega) with y | y
    · refine ⟨-3, c, g, F, W, M, hc, hF, hW, fun post u hR hq => ?_⟩
      obtain ⟨q0, q1, q2, q3, q4, a1, a2, a3, a4, a5, a6, a7, a8, a9, a10⟩ := u
      exact zc_ch hc ha hF hW hR (fun x => absurd (x.symm.trans z) (zc_m1 (by omega))) (fun _ _ _ _ u' h' => hq u' h') (fun _ _ _ x => absurd (y.symm.trans x) (by decide))
    · refine ⟨0, c, g, F, W, upd M (8 * f + a % 8) (M (8 * f + a % 8) + v), hc, hF, hW, fun post u hR hq => ?_⟩
      obtain ⟨q0, q1, q2, q3, q4, a1, a2, a3, a4, a5, a6, a7, a8, a9, a10⟩ := u
      refine zc_ch hc ha hF hW hR (fun x => absurd (x.symm.trans z) (zc_m1 (by omega))) (fun _ _ _ x => absurd (x.symm.trans y) (by decide)) (fun f' hf' x _ u' h' => hq u' ?_)
      have ef : f' = f := zc_eqI (by omega) (by omega) (x.symm.trans z)
      rw [ef] at h'
      exact h'
theorem zc_load {c a : Nat} {g : Int32} {F W M : Nat → Int32} (hc : c < 4) (ha : a < 64) (hF : zc_F F) (hW : zc_W W) : zc_D c g F W M (fun post u => wpX_load post u (nI a)) := by
  rcases hF (8 * c + a / 8) (by omega) with z | ⟨f, hf, z⟩
  · exact ⟨-2, c, g, F, W, M, hc, hF, hW, fun post u hR hq => zc_ld hc ha hF hW hR (fun _ => hq) (fun f hf y => absurd (z.symm.trans y) (zc_m1 (by omega)))⟩
  · refine ⟨0, c, M (8 * f + a % 8), F, W, M, hc, hF, hW, fun post u hR hq => zc_ld hc ha hF hW hR (fun x => absurd (x.symm.trans z) (zc_m1 (by omega))) (fun f' hf' x u' h' => hq u' ?_)⟩
    have ef : f' = f := zc_eqI (by omega) (by omega) (x.symm.trans z)
    rw [ef] at h'
    exact h'
/-- store: as above, and if it answers 0 what the check needs -/
theorem zc_store {c a : Nat} {g v : Int32} {F W M : Nat → Int32} (hc : c < 4) (ha : a < 64) (hF : zc_F F) (hW : zc_W W) : ∃ (r : Int32) (M' : Nat → Int32), (r = 0 → ∃ f, f < 8 ∧ F (8 * c + a / 8) = nI f ∧ M' (8 * f + a % 8) = v) ∧ ∀ (post : Int32 → St2 → Prop) (u : St2), zc_R c g F W M u → (∀ u', zc_R c g F W M' u' → post r u') → wpX_store post u (nI a) v := by
  rcases hF (8 * c + a / 8) (by omega) with z | ⟨f, hf, z⟩
  · refine ⟨-2, M, fun x => absurd x (by decide), fun post u hR hq => ?_⟩
    obtain ⟨q0, q1, q2, q3, q4, a1, a2, a3, a4, a5, a6, a7, a8, a9, a10⟩ := u
    exact zc_ch hc ha hF hW hR (fun _ u' h' => hq u' h') (fun f hf y => absurd (z.symm.trans y) (zc_m1 (by omega))) (fun f hf y => absurd (z.symm.trans y) (zc_m1 (by omega)))
  · rcases hW (8 * c + a / 8) (by omega) with y | y
    · refine ⟨-3, M, fun x => absurd x (by decide), fun post u hR hq => ?_⟩
      obtain ⟨q0, q1, q2, q3, q4, a1, a2, a3, a4, a5, a6, a7, a8, a9, a10⟩ := u
      exact zc_ch hc ha hF hW hR (fun x => absurd (x.symm.trans z) (zc_m1 (by omega))) (fun _ _ _ _ u' h' => hq u' h') (fun _ _ _ x => absurd (y.symm.trans x) (by decide))
    · refine ⟨0, upd M (8 * f + a % 8) v, fun _ => ⟨f, hf, z, pk_us⟩, fun post u hR hq => ?_⟩
      obtain ⟨q0, q1, q2, q3, q4, a1, a2, a3, a4, a5, a6, a7, a8, a9, a10⟩ := u
      refine zc_ch hc ha hF hW hR (fun x => absurd (x.symm.trans z) (zc_m1 (by omega))) (fun _ _ _ x => absurd (x.symm.trans y) (by decide)) (fun f' hf' x _ u' h' => hq u' ?_)
      have ef : f' = f := zc_eqI (by omega) (by omega) (x.symm.trans z)
      rw [ef] at h'
      exact h'
end
section
theorem zc_seen {post : Int32 → St2 → Prop} {c a f : Nat} {g v : Int32} {F W M : Nat → Int32} {u : St2} (hc : c < 4) (ha : a < 64) (hF : zc_F F) (hW : zc_W W) (hf : f < 8) (hz : F (8 * c + a / 8) = nI f) (hv : M (8 * f + a % 8) = v) (hR : zc_R c g F W M u)
    (hp : ∀ u', zc_R c v F W M u' → post 1 u') : wpL_seen post u (nI a) v := by
  obtain ⟨q0, q1, q2, q3, q4, a1, a2, a3, a4, a5, a6, a7, a8, a9, a10⟩ := u
  unfold wpL_seen
  dsimp only
  refine zc_tl hc ha hF hW hR (fun x => absurd (x.symm.trans hz) (zc_m1 (by omega))) (fun f' hf' x u' h' => ?_)
  have ef : f' = f := zc_eqI (by omega) (by omega) (x.symm.trans hz)
  subst ef
  have hw : 8 * f' + a % 8 < 64 := by omega
  obtain ⟨w, ew⟩ : ∃ w, w = 8 * f' + a % 8 := ⟨_, rfl⟩
  rw [← ew] at hw hv
  rw [← ew]
  obtain ⟨r0, r1, r2, r3, r4, b1, b2, b3, b4, b5, b6, b7, b8, b9, b10⟩ := u'
  have h0 := h'
  obtain ⟨e0, e1, e2, e3, eT, ⟨n, hn, hn4, en, hC⟩⟩ := h'
  subst en
  refine br_f (nI_pos (by omega)) (zc_rd hn hn4 hw hC (br_t hv ?_))
  refine pk_loop (fun m i (s : St2) => wL_seen_24 post v (nI w) m (nI i) s.1 s.2.1 s.2.2.1 s.2.2.2.1 s.2.2.2.2.1 s.2.2.2.2.2.1 s.2.2.2.2.2.2.1 s.2.2.2.2.2.2.2.1 s.2.2.2.2.2.2.2.2.1 s.2.2.2.2.2.2.2.2.2.1 s.2.2.2.2.2.2.2.2.2.2.1 s.2.2.2.2.2.2.2.2.2.2.2.1 s.2.2.2.2.2.2.2.2.2.2.2.2.1 s.2.2.2.2.2.2.2.2.2.2.2.2.2.1 s.2.2.2.2.2.2.2.2.2.2.2.2.2.2) (fun i s => ∃ g', zc_R c g' F W M s ∧ (a < i → g' = v)) 64 0 (r0, r1, r2, r3, nI n, b1, b2, b3, b4, b5, b6, b7, b8, b9, b10) (by omega) ⟨g, h0, fun z => absurd z (by omega)⟩ ?_ ?_
  · intro m s h
    obtain ⟨q0, q1, q2, q3, q4, a1, a2, a3, a4, a5, a6, a7, a8, a9, a10⟩ := s
    obtain ⟨g', hs, hg⟩ := h
    rw [hg ha] at hs
    exact pk_le 64 64 (fun _ => hp _ hs) (fun z => absurd z (by omega))
  · intro m i s hi h hk
    obtain ⟨q0, q1, q2, q3, q4, a1, a2, a3, a4, a5, a6, a7, a8, a9, a10⟩ := s
    obtain ⟨g', hs, hg⟩ := h
    refine pk_le 64 i (fun z => absurd z (by omega)) (fun _ => ?_)
    refine zc_tl hc hi hF hW hs (fun y u' h' => ?_) (fun k hk8 y u' h' => ?_)
    · obtain ⟨r0, r1, r2, r3, r4, b1, b2, b3, b4, b5, b6, b7, b8, b9, b10⟩ := u'
      refine br_f (fun z => ?_) (nm_r (nI_1 i) (hk _ ⟨g', h', fun z => hg ?_⟩))
      · have t : (-2 : Int32) < 0 := by decide
        rw [z] at t
        exact nI_pos (by omega) t
      · have hne : a ≠ i := by
          intro z
          rw [z] at x
          exact zc_m1 (by omega) (y.symm.trans x)
        omega
    · obtain ⟨r0, r1, r2, r3, r4, b1, b2, b3, b4, b5, b6, b7, b8, b9, b10⟩ := u'
      refine pk_eq (8 * k + i % 8) w (fun z => ?_) (fun z => nm_r (nI_1 i) (hk _ ⟨g', h', fun z' => hg ?_⟩))
      · refine zc_ld hc hi hF hW h' (fun y' => absurd (y'.symm.trans y) (zc_m1 (by omega))) (fun k' hk' y' u' h2 => ?_)
        have ek : k' = k := zc_eqI (by omega) (by omega) (y'.symm.trans y)
        rw [ek, z, hv] at h2
        obtain ⟨r0, r1, r2, r3, r4, b1, b2, b3, b4, b5, b6, b7, b8, b9, b10⟩ := u'
        have h3 : r1 = v := h2.2.1
        exact br_t rfl (br_t h3 (nm_r (nI_1 i) (hk _ ⟨v, h2, fun _ => rfl⟩)))
      · have hne : a ≠ i := by
          intro e
          rw [e] at x ew
          have ek : k = f' := zc_eqI (by omega) (by omega) (y.symm.trans x)
          rw [ek] at z
          exact z ew.symm
        omega
theorem zc_same {post : Int32 → St3 → Prop} {c : Nat} {g : Int32} {F W M : Nat → Int32} {q0 q1 q2 q3 q4 r0 r1 r2 r3 r4 : Int32} {a1 a2 a3 a4 a5 a6 a7 a8 a9 a10 b1 b2 b3 b4 b5 b6 b7 b8 b9 b10 : Nat → Int32} (hc : c < 4) (hF : zc_F F) (hW : zc_W W)
    (hx : zc_R c g F W M (q0, q1, q2, q3, q4, a1, a2, a3, a4, a5, a6, a7, a8, a9, a10)) (hy : zc_R c g F W M (r0, r1, r2, r3, r4, b1, b2, b3, b4, b5, b6, b7, b8, b9, b10)) (hp : ∀ u, post 1 u) :
    wpL_same post (q0, q1, q2, q3, q4, a1, a2, a3, a4, a5, a6, a7, a8, a9, a10, r0, r1, r2, r3, r4, b1, b2, b3, b4, b5, b6, b7, b8, b9, b10) := by
  refine pk_loop (fun m i (s : St2 × St2) => wL_same_2 post m (nI i) s.1.1 s.1.2.1 s.1.2.2.1 s.1.2.2.2.1 s.1.2.2.2.2.1 s.1.2.2.2.2.2.1 s.1.2.2.2.2.2.2.1 s.1.2.2.2.2.2.2.2.1 s.1.2.2.2.2.2.2.2.2.1 s.1.2.2.2.2.2.2.2.2.2.1 s.1.2.2.2.2.2.2.2.2.2.2.1 s.1.2.2.2.2.2.2.2.2.2.2.2.1 s.1.2.2.2.2.2.2.2.2.2.2.2.2.1 s.1.2.2.2.2.2.2.2.2.2.2.2.2.2.1 s.1.2.2.2.2.2.2.2.2.2.2.2.2.2.2 s.2.1 s.2.2.1 s.2.2.2.1 s.2.2.2.2.1 s.2.2.2.2.2.1 s.2.2.2.2.2.2.1 s.2.2.2.2.2.2.2.1 s.2.2.2.2.2.2.2.2.1 s.2.2.2.2.2.2.2.2.2.1 s.2.2.2.2.2.2.2.2.2.2.1 s.2.2.2.2.2.2.2.2.2.2.2.1 s.2.2.2.2.2.2.2.2.2.2.2.2.1 s.2.2.2.2.2.2.2.2.2.2.2.2.2.1 s.2.2.2.2.2.2.2.2.2.2.2.2.2.2.1 s.2.2.2.2.2.2.2.2.2.2.2.2.2.2.2) (fun _ s => zc_R c g F W M s.1 ∧ zc_R c g F W M s.2) 64 0 ((q0, q1, q2, q3, q4, a1, a2, a3, a4, a5, a6, a7, a8, a9, a10), (r0, r1, r2, r3, r4, b1, b2, b3, b4, b5, b6, b7, b8, b9, b10)) (by omega) ⟨hx, hy⟩ ?_ ?_
  · intro m s h
    obtain ⟨⟨q0, q1, q2, q3, q4, a1, a2, a3, a4, a5, a6, a7, a8, a9, a10⟩, ⟨r0, r1, r2, r3, r4, b1, b2, b3, b4, b5, b6, b7, b8, b9, b10⟩⟩ := s
    obtain ⟨h1, h2⟩ := h
    have e1 : q1 = g := h1.2.1
    have e2 : r1 = g := h2.2.1
    exact pk_le 64 64 (fun _ => br_t (e1.trans e2.symm) (hp _)) (fun z => absurd z (by omega))
  · intro m i s hi h hk
    obtain ⟨⟨q0, q1, q2, q3, q4, a1, a2, a3, a4, a5, a6, a7, a8, a9, a10⟩, ⟨r0, r1, r2, r3, r4, b1, b2, b3, b4, b5, b6, b7, b8, b9, b10⟩⟩ := s
    obtain ⟨h1, h2⟩ := h
    have h1' : zc_R c g F W M (q0, q1, q2, q3, q4, a1, a2, a3, a4, a5, a6, a7, a8, a9, a10) := h1
    have h2' : zc_R c g F W M (r0, r1, r2, r3, r4, b1, b2, b3, b4, b5, b6, b7, b8, b9, b10) := h2
    obtain ⟨_, _, _, _, _, ⟨n, hn, hn4, en, hC⟩⟩ := h1'
    obtain ⟨_, _, _, _, _, ⟨n', hn', hn4', en', hC'⟩⟩ := h2'
    subst en en'
    refine pk_le 64 i (fun z => absurd z (by omega)) (fun _ => ?_)
    refine zc_rd hn hn4 hi hC (zc_rd hn' hn4' hi hC' (br_t rfl ?_))
    refine zc_tl hc hi hF hW h1 (fun y u' h' => ?_) (fun k hk8 y u' h' => ?_)
    · obtain ⟨t0, t1, t2, t3, t4, c1, c2, c3, c4, c5, c6, c7, c8, c9, c10⟩ := u'
      refine zc_tl hc hi hF hW h2 (fun y' u' h3 => ?_) (fun k' hk' y' => absurd (y.symm.trans y') (zc_m1 (by omega)))
      obtain ⟨s0, s1, s2, s3, s4, d1, d2, d3, d4, d5, d6, d7, d8, d9, d10⟩ := u'
      exact br_t rfl (nm_r (nI_1 i) (hk (_, _) ⟨h', h3⟩))
    · obtain ⟨t0, t1, t2, t3, t4, c1, c2, c3, c4, c5, c6, c7, c8, c9, c10⟩ := u'
      refine zc_tl hc hi hF hW h2 (fun y' => absurd (y'.symm.trans y) (zc_m1 (by omega))) (fun k' hk' y' u' h3 => ?_)
      obtain ⟨s0, s1, s2, s3, s4, d1, d2, d3, d4, d5, d6, d7, d8, d9, d10⟩ := u'
      have ek : k' = k := zc_eqI (by omega) (by omega) (y'.symm.trans y)
      exact br_t (by rw [ek]) (nm_r (nI_1 i) (hk (_, _) ⟨h', h3⟩))
/-- below i: x, else 0 -/
def zc_lo (i : Nat) (x : Int32) : Nat → Int32 := fun j => if j < i then x else 0
theorem zc_lo_0 (x : Int32) : zc_lo 0 x = fun _ => 0 := by
  funext j
  exact if_neg (by omega)
theorem zc_lo_s (i : Nat) (x : Int32) : upd (zc_lo i x) i x = zc_lo (i + 1) x := by
  funext j
  show (if j = i then x else if j < i then x else 0) = if j < i + 1 then x else 0
  by_cases h : j = i
  · rw [if_pos h, if_pos (by omega)]
  · by_cases h2 : j < i
    · rw [if_neg h, if_pos h2, if_pos (by omega)]
    · rw [if_neg h, if_neg h2, if_neg (by omega)]
theorem zc_lo_in {i j : Nat} {x : Int32} (h : j < i) : zc_lo i x j = x := if_pos h
theorem zc_clip {A B C : Prop} (p : Int32) (hA : ∀ n, 0 < n → n ≤ 4 → p = nI n → A) (hB : B) (hC : C) : (1 ≤ p → (p ≤ 4 → A) ∧ (¬ p ≤ 4 → B)) ∧ (¬ 1 ≤ p → C) := by
  refine ⟨fun h1 => ⟨fun h4 => ?_, fun _ => hB⟩, fun _ => hC⟩
  have h0 : ¬ p < 0 := by
    intro h
    have t1 := Int32.le_iff_toInt_le.mp h1
    have t2 := Int32.lt_iff_toInt_lt.mp h
    have t3 : (1 : Int32).toInt = 1 := by decide
    have t4 : (0 : Int32).toInt = 0 := by decide
    omega
  obtain ⟨n, hn, e⟩ := nI_of2 (M := 4) (n := 4) (by decide) h0 h4
  refine hA n ?_ hn e
  rw [e] at h1
  have h1' : nI 1 ≤ nI n := h1
  have := (nI_leI (by omega) (by omega)).mp h1'
  omega
theorem zc_init {post : St2 → Prop} (p0 p1 : Int32) (H : ∀ u, zc_R 0 0 (zc_lo 32 (-1)) (fun _ => 0) (fun _ => 0) u → post u) : wpX_init post 10 192 (0, 0, 0, 0, 0) p0 p1 := by
  have h169 : ∀ k n, 0 < k → k ≤ 4 → 0 < n → n ≤ 4 → ∃ fu, wX_init_169 post 10 192 10 192 0 0 (nI k) 0 (nI n) fu 0 (fun _ => 0) (zc_lo 32 (-1)) (fun _ => 0) (zc_lo 4 (-1)) (fun _ => 0) (fun _ => 0) (fun _ => 0) (fun _ => 0) (fun _ => 0) (fun _ => 0) := by
    intro k n hk hk4 hn hn4
    refine pk_loop (fun m i s => wX_init_169 post 10 192 10 192 0 0 (nI k) 0 (nI n) m (nI i) (fun _ => 0) (zc_lo 32 (-1)) (fun _ => 0) (zc_lo 4 (-1)) (fun _ => 0) (fun _ => 0) s (fun _ => 0) (fun _ => 0) (fun _ => 0)) (fun i s => s = zc_lo i (-1)) 8 0 (fun _ => 0) (by omega) (zc_lo_0 _).symm ?_ ?_
    · intro m s hs
      subst hs
      refine pk_le 8 8 (fun _ => H _ ⟨rfl, rfl, rfl, rfl, ⟨k, 0, hk, hk4, hk, rfl, rfl, fun j hj => Or.inl (zc_lo_in (by omega))⟩, ⟨n, hn, hn4, rfl, ?_⟩⟩) (fun z => absurd z (by omega))
      have no : ∀ l b, l < 8 → b < 16 → ¬ zc_lo 8 (-1) l = nI b := by
        intro l b hl hb e
        rw [zc_lo_in hl] at e
        exact zc_m1 (by omega) e
      exact ⟨fun l hl => Or.inl (zc_lo_in hl), fun l m b hl _ hb e => absurd e (no l b hl hb), fun l b i hl hb _ e => absurd e (no l b hl hb), fun l b i hl hb _ e => absurd e (no l b hl hb), fun b i _ _ _ => rfl⟩
    · intro m i s hi hs hw
      subst hs
      exact pk_le 8 i (fun z => absurd z (by omega)) (fun _ => ⟨pk_in i 8 hi, nm_r (e' := zc_lo (i + 1) (-1)) (by rw [nI_clamp (by omega), zc_lo_s]) (nm_r (nI_1 i) (hw _ rfl))⟩)
  have h149 : ∀ k n, 0 < k → k ≤ 4 → 0 < n → n ≤ 4 → ∃ fu, wX_init_149 post 10 192 10 192 0 0 (nI k) 0 (nI n) fu 0 (fun _ => 0) (zc_lo 32 (-1)) (fun _ => 0) (fun _ => 0) (fun _ => 0) (fun _ => 0) (fun _ => 0) (fun _ => 0) (fun _ => 0) (fun _ => 0) := by
    intro k n hk hk4 hn hn4
    refine pk_loop (fun m i s => wX_init_149 post 10 192 10 192 0 0 (nI k) 0 (nI n) m (nI i) (fun _ => 0) (zc_lo 32 (-1)) (fun _ => 0) s (fun _ => 0) (fun _ => 0) (fun _ => 0) (fun _ => 0) (fun _ => 0) (fun _ => 0)) (fun i s => s = zc_lo i (-1)) 4 0 (fun _ => 0) (by omega) (zc_lo_0 _).symm ?_ ?_
    · intro m s hs
      subst hs
      exact pk_le 4 4 (fun _ => h169 k n hk hk4 hn hn4) (fun z => absurd z (by omega))
    · intro m i s hi hs hw
      subst hs
      exact pk_le 4 i (fun z => absurd z (by omega)) (fun _ => ⟨pk_in i 4 hi, nm_r (e' := zc_lo (i + 1) (-1)) (by rw [nI_clamp (by omega), zc_lo_s]) (nm_r (nI_1 i) (hw _ rfl))⟩)
  have h128 : ∀ k n, 0 < k → k ≤ 4 → 0 < n → n ≤ 4 → ∃ fu, wX_init_128 post 10 192 10 192 0 0 (nI k) 0 (nI n) fu 0 (fun _ => 0) (fun _ => 0) (fun _ => 0) (fun _ => 0) (fun _ => 0) (fun _ => 0) (fun _ => 0) (fun _ => 0) (fun _ => 0) (fun _ => 0) := by
    intro k n hk hk4 hn hn4
    refine pk_loop (fun m i s => wX_init_128 post 10 192 10 192 0 0 (nI k) 0 (nI n) m (nI i) (fun _ => 0) s (fun _ => 0) (fun _ => 0) (fun _ => 0) (fun _ => 0) (fun _ => 0) (fun _ => 0) (fun _ => 0) (fun _ => 0)) (fun i s => s = zc_lo i (-1)) 32 0 (fun _ => 0) (by omega) (zc_lo_0 _).symm ?_ ?_
    · intro m s hs
      subst hs
      exact pk_le 32 32 (fun _ => h149 k n hk hk4 hn hn4) (fun z => absurd z (by omega))
    · intro m i s hi hs hw
      subst hs
      exact pk_le 32 i (fun z => absurd z (by omega)) (fun _ => ⟨pk_in i 32 hi, nm_r (e' := zc_lo (i + 1) (-1)) (by rw [nI_clamp (by omega), zc_lo_s]) (nm_r (nI_1 i) (hw _ rfl))⟩)
  have h100 : ∀ n, 0 < n → n ≤ 4 → wX_init_100 post 10 192 p1 (nI n) 10 192 0 0 0 0 0 (fun _ => 0) (fun _ => 0) (fun _ => 0) (fun _ => 0) (fun _ => 0) (fun _ => 0) (fun _ => 0) (fun _ => 0) (fun _ => 0) (fun _ => 0) := by
    intro n hn hn4
    refine zc_clip p1 (fun k hk hk4 e => ?_) (h128 4 n (by omega) (by omega) hn hn4) (h128 1 n (by omega) (by omega) hn hn4)
    rw [e]
    exact h128 k n hk hk4 hn hn4
  have hlast : (1 ≤ p0 → (p0 ≤ 4 → wX_init_100 post 10 192 p1 p0 10 192 0 0 0 0 0 (fun _ => 0) (fun _ => 0) (fun _ => 0) (fun _ => 0) (fun _ => 0) (fun _ => 0) (fun _ => 0) (fun _ => 0) (fun _ => 0) (fun _ => 0)) ∧ (¬ p0 ≤ 4 → wX_init_100 post 10 192 p1 4 10 192 0 0 0 0 0 (fun _ => 0) (fun _ => 0) (fun _ => 0) (fun _ => 0) (fun _ => 0) (fun _ => 0) (fun _ => 0) (fun _ => 0) (fun _ => 0) (fun _ => 0))) ∧ (¬ 1 ≤ p0 → wX_init_100 post 10 192 p1 1 10 192 0 0 0 0 0 (fun _ => 0) (fun _ => 0) (fun _ => 0) (fun _ => 0) (fun _ => 0) (fun _ => 0) (fun _ => 0) (fun _ => 0) (fun _ => 0) (fun _ => 0)) := by
    refine zc_clip p0 (fun n hn hn4 e => ?_) (h100 4 (by omega) (by omega)) (h100 1 (by omega) (by omega))
    rw [e]
    exact h100 n hn hn4
  exact ⟨by omega, by omega, by omega, by omega, by omega, by omega, by omega, by omega, by omega, by omega, by omega, by omega, by omega, by omega, by omega, by omega, by omega, by omega, by omega, by omega, hlast⟩
end
section
/-- what the next turn needs of the loop -/
def zc_J (J : Int32 → Int32 → Int32 → Int32 → Int32 → Int32 → (Nat → Int32) → (Nat → Int32) → (Nat → Int32) → (Nat → Int32) → (Nat → Int32) → (Nat → Int32) → (Nat → Int32) → (Nat → Int32) → (Nat → Int32) → (Nat → Int32) → Int32 → Int32 → Int32 → Int32 → Int32 → (Nat → Int32) → (Nat → Int32) → (Nat → Int32) → (Nat → Int32) → (Nat → Int32) → (Nat → Int32) → (Nat → Int32) → (Nat → Int32) → (Nat → Int32) → (Nat → Int32) → Prop) (i : Nat) : Prop := ∀ (c : Nat) (g : Int32) (F W M : Nat → Int32) (q0 q1 q2 q3 q4 r0 r1 r2 r3 r4 : Int32) (a1 a2 a3 a4 a5 a6 a7 a8 a9 a10 b1 b2 b3 b4 b5 b6 b7 b8 b9 b10 : Nat → Int32), c < 4 → zc_F F → zc_W W → zc_R c g F W M (q0, q1, q2, q3, q4, a1, a2, a3, a4, a5, a6, a7, a8, a9, a10) → zc_R c g F W M (r0, r1, r2, r3, r4, b1, b2, b3, b4, b5, b6, b7, b8, b9, b10) → J (nI (i + 4)) q0 q1 q2 q3 q4 a1 a2 a3 a4 a5 a6 a7 a8 a9 a10 r0 r1 r2 r3 r4 b1 b2 b3 b4 b5 b6 b7 b8 b9 b10
theorem zc_tail {post : Int32 → Prop} {L : Nat} {xs : Nat → Int32} {J : Int32 → Int32 → Int32 → Int32 → Int32 → Int32 → (Nat → Int32) → (Nat → Int32) → (Nat → Int32) → (Nat → Int32) → (Nat → Int32) → (Nat → Int32) → (Nat → Int32) → (Nat → Int32) → (Nat → Int32) → (Nat → Int32) → Int32 → Int32 → Int32 → Int32 → Int32 → (Nat → Int32) → (Nat → Int32) → (Nat → Int32) → (Nat → Int32) → (Nat → Int32) → (Nat → Int32) → (Nat → Int32) → (Nat → Int32) → (Nat → Int32) → (Nat → Int32) → Prop} {i kc ks c : Nat} {g : Int32} {F W M : Nat → Int32} {q0 q1 q2 q3 q4 r0 r1 r2 r3 r4 : Int32} {a1 a2 a3 a4 a5 a6 a7 a8 a9 a10 b1 b2 b3 b4 b5 b6 b7 b8 b9 b10 : Nat → Int32} (hJ : zc_J J i) (hc : c < 4) (hF : zc_F F) (hW : zc_W W) (hx : zc_R c g F W M (q0, q1, q2, q3, q4, a1, a2, a3, a4, a5, a6, a7, a8, a9, a10)) (hy : zc_R c g F W M (r0, r1, r2, r3, r4, b1, b2, b3, b4, b5, b6, b7, b8, b9, b10)) : wL_law_517 post L xs J (nI i) 1 kc ks q0 q1 q2 q3 q4 a1 a2 a3 a4 a5 a6 a7 a8 a9 a10 r0 r1 r2 r3 r4 b1 b2 b3 b4 b5 b6 b7 b8 b9 b10 :=
  br_f (by decide) (nm_r (e' := nI (i + 4)) (nI_add i 4) (hJ c g F W M _ _ _ _ _ _ _ _ _ _ _ _ _ _ _ _ _ _ _ _ _ _ _ _ _ _ _ _ _ _ hc hF hW hx hy))
theorem zc_t305 {post : Int32 → Prop} {L : Nat} {xs : Nat → Int32} {J : Int32 → Int32 → Int32 → Int32 → Int32 → Int32 → (Nat → Int32) → (Nat → Int32) → (Nat → Int32) → (Nat → Int32) → (Nat → Int32) → (Nat → Int32) → (Nat → Int32) → (Nat → Int32) → (Nat → Int32) → (Nat → Int32) → Int32 → Int32 → Int32 → Int32 → Int32 → (Nat → Int32) → (Nat → Int32) → (Nat → Int32) → (Nat → Int32) → (Nat → Int32) → (Nat → Int32) → (Nat → Int32) → (Nat → Int32) → (Nat → Int32) → (Nat → Int32) → Prop} {i kc ks c : Nat} {g : Int32} {F W M : Nat → Int32} {q0 q1 q2 q3 q4 r0 r1 r2 r3 r4 : Int32} {a1 a2 a3 a4 a5 a6 a7 a8 a9 a10 b1 b2 b3 b4 b5 b6 b7 b8 b9 b10 : Nat → Int32} (hJ : zc_J J i) (hc : c < 4) (hF : zc_F F) (hW : zc_W W) (hx : zc_R c g F W M (q0, q1, q2, q3, q4, a1, a2, a3, a4, a5, a6, a7, a8, a9, a10)) (hy : zc_R c g F W M (r0, r1, r2, r3, r4, b1, b2, b3, b4, b5, b6, b7, b8, b9, b10)) : wL_law_305 post L xs J (nI i) kc ks q0 q1 q2 q3 q4 a1 a2 a3 a4 a5 a6 a7 a8 a9 a10 r0 r1 r2 r3 r4 b1 b2 b3 b4 b5 b6 b7 b8 b9 b10 := by
  unfold wL_law_305 wL_law_310
  exact zc_tail hJ hc hF hW hx hy
theorem zc_c476 {post : Int32 → Prop} {L : Nat} {xs : Nat → Int32} {J : Int32 → Int32 → Int32 → Int32 → Int32 → Int32 → (Nat → Int32) → (Nat → Int32) → (Nat → Int32) → (Nat → Int32) → (Nat → Int32) → (Nat → Int32) → (Nat → Int32) → (Nat → Int32) → (Nat → Int32) → (Nat → Int32) → Int32 → Int32 → Int32 → Int32 → Int32 → (Nat → Int32) → (Nat → Int32) → (Nat → Int32) → (Nat → Int32) → (Nat → Int32) → (Nat → Int32) → (Nat → Int32) → (Nat → Int32) → (Nat → Int32) → (Nat → Int32) → Prop} {i kc ks c a : Nat} {g v r : Int32} {F W M : Nat → Int32} {q0 q1 q2 q3 q4 r0 r1 r2 r3 r4 : Int32} {a1 a2 a3 a4 a5 a6 a7 a8 a9 a10 b1 b2 b3 b4 b5 b6 b7 b8 b9 b10 : Nat → Int32} (hJ : zc_J J i) (hc : c < 4) (ha : a < 64) (hF : zc_F F) (hW : zc_W W) (hr : r = 0 → ∃ f, f < 8 ∧ F (8 * c + a / 8) = nI f ∧ M (8 * f + a % 8) = v) (hx : zc_R c g F W M (q0, q1, q2, q3, q4, a1, a2, a3, a4, a5, a6, a7, a8, a9, a10)) (hy : zc_R c g F W M (r0, r1, r2, r3, r4, b1, b2, b3, b4, b5, b6, b7, b8, b9, b10)) : wL_law_476 post L xs J (nI i) (nI a) v r 1 kc ks q0 q1 q2 q3 q4 a1 a2 a3 a4 a5 a6 a7 a8 a9 a10 r0 r1 r2 r3 r4 b1 b2 b3 b4 b5 b6 b7 b8 b9 b10 := by
  refine br_c (fun z => ?_) (fun _ => zc_tail hJ hc hF hW hx hy)
  obtain ⟨f, hf, hz, hv⟩ := hr z
  refine br_f (by decide) (zc_seen hc ha hF hW hf hz hv hx (fun u' h' => ?_))
  obtain ⟨q0, q1, q2, q3, q4, a1, a2, a3, a4, a5, a6, a7, a8, a9, a10⟩ := u'
  refine br_f (by decide) (zc_seen hc ha hF hW hf hz hv hy (fun v' h2 => ?_))
  obtain ⟨r0, r1, r2, r3, r4, b1, b2, b3, b4, b5, b6, b7, b8, b9, b10⟩ := v'
  exact br_f (by decide) (zc_tail hJ hc hF hW h' h2)
theorem zc_c412 {post : Int32 → Prop} {L : Nat} {xs : Nat → Int32} {J : Int32 → Int32 → Int32 → Int32 → Int32 → Int32 → (Nat → Int32) → (Nat → Int32) → (Nat → Int32) → (Nat → Int32) → (Nat → Int32) → (Nat → Int32) → (Nat → Int32) → (Nat → Int32) → (Nat → Int32) → (Nat → Int32) → Int32 → Int32 → Int32 → Int32 → Int32 → (Nat → Int32) → (Nat → Int32) → (Nat → Int32) → (Nat → Int32) → (Nat → Int32) → (Nat → Int32) → (Nat → Int32) → (Nat → Int32) → (Nat → Int32) → (Nat → Int32) → Prop} {i kc ks c a : Nat} {g : Int32} {F W M : Nat → Int32} {q0 q1 q2 q3 q4 r0 r1 r2 r3 r4 : Int32} {a1 a2 a3 a4 a5 a6 a7 a8 a9 a10 b1 b2 b3 b4 b5 b6 b7 b8 b9 b10 : Nat → Int32} (hJ : zc_J J i) (hc : c < 4) (ha : a < 64) (hF : zc_F F) (hW : zc_W W) (hx : zc_R c g F W M (q0, q1, q2, q3, q4, a1, a2, a3, a4, a5, a6, a7, a8, a9, a10)) (hy : zc_R c g F W M (r0, r1, r2, r3, r4, b1, b2, b3, b4, b5, b6, b7, b8, b9, b10)) : wL_law_412 post L xs J (nI i) (nI a) kc ks q0 q1 q2 q3 q4 a1 a2 a3 a4 a5 a6 a7 a8 a9 a10 r0 r1 r2 r3 r4 b1 b2 b3 b4 b5 b6 b7 b8 b9 b10 := by
  obtain ⟨r, c', g', F', W', M', hc', hF', hW', hD⟩ := zc_load (c := c) (a := a) (g := g) (M := M) hc ha hF hW
  refine hD _ _ hx (fun u' h' => ?_)
  obtain ⟨q0, q1, q2, q3, q4, a1, a2, a3, a4, a5, a6, a7, a8, a9, a10⟩ := u'
  refine hD _ _ hy (fun v' h2 => ?_)
  obtain ⟨r0, r1, r2, r3, r4, b1, b2, b3, b4, b5, b6, b7, b8, b9, b10⟩ := v'
  have e1 : q1 = g' := h'.2.1
  have e2 : r1 = g' := h2.2.1
  exact br_t rfl (br_t (e1.trans e2.symm) (zc_tail hJ hc' hF' hW' h' h2))
theorem zc_c169 {post : Int32 → Prop} {L : Nat} {xs : Nat → Int32} {J : Int32 → Int32 → Int32 → Int32 → Int32 → Int32 → (Nat → Int32) → (Nat → Int32) → (Nat → Int32) → (Nat → Int32) → (Nat → Int32) → (Nat → Int32) → (Nat → Int32) → (Nat → Int32) → (Nat → Int32) → (Nat → Int32) → Int32 → Int32 → Int32 → Int32 → Int32 → (Nat → Int32) → (Nat → Int32) → (Nat → Int32) → (Nat → Int32) → (Nat → Int32) → (Nat → Int32) → (Nat → Int32) → (Nat → Int32) → (Nat → Int32) → (Nat → Int32) → Prop} {i kc ks c a b : Nat} {g v : Int32} {F W M : Nat → Int32} {q0 q1 q2 q3 q4 r0 r1 r2 r3 r4 : Int32} {a1 a2 a3 a4 a5 a6 a7 a8 a9 a10 b1 b2 b3 b4 b5 b6 b7 b8 b9 b10 : Nat → Int32} (hJ : zc_J J i) (hc : c < 4) (ha : a < 64) (hb : b < 64) (hF : zc_F F) (hW : zc_W W) (hx : zc_R c g F W M (q0, q1, q2, q3, q4, a1, a2, a3, a4, a5, a6, a7, a8, a9, a10)) (hy : zc_R c g F W M (r0, r1, r2, r3, r4, b1, b2, b3, b4, b5, b6, b7, b8, b9, b10)) : wL_law_169 post L xs J (nI i) (nI a) (nI b) v kc ks q0 q1 q2 q3 q4 a1 a2 a3 a4 a5 a6 a7 a8 a9 a10 r0 r1 r2 r3 r4 b1 b2 b3 b4 b5 b6 b7 b8 b9 b10 := by
  have e1 : nI a &&& 1 = nI (a % 2) := pk_andN (by omega) 1 (by decide)
  by_cases h3 : v &&& 3 = 0
  · obtain ⟨r, c', g', F', W', M', hc', hF', hW', hD⟩ := zc_map (c := c) (s := a % 2) (p := a / 8) (f := b / 8) (g := g) (w := 0) (M := M) hc (by omega) (by omega) (by omega) (Or.inl rfl) hF hW
    refine br_t h3 ?_
    unfold wL_law_194
    rw [e1, zc_s3 ha, zc_s3 hb]
    refine hD _ _ hx (fun u' h' => ?_)
    obtain ⟨q0, q1, q2, q3, q4, a1, a2, a3, a4, a5, a6, a7, a8, a9, a10⟩ := u'
    refine br_t h3 ?_
    unfold wL_law_222
    refine hD _ _ hy (fun v' h2 => ?_)
    obtain ⟨r0, r1, r2, r3, r4, b1, b2, b3, b4, b5, b6, b7, b8, b9, b10⟩ := v'
    exact br_t rfl (zc_tail hJ hc' hF' hW' h' h2)
  · obtain ⟨r, c', g', F', W', M', hc', hF', hW', hD⟩ := zc_map (c := c) (s := a % 2) (p := a / 8) (f := b / 8) (g := g) (w := 1) (M := M) hc (by omega) (by omega) (by omega) (Or.inr rfl) hF hW
    refine br_f h3 ?_
    unfold wL_law_194
    rw [e1, zc_s3 ha, zc_s3 hb]
    refine hD _ _ hx (fun u' h' => ?_)
    obtain ⟨q0, q1, q2, q3, q4, a1, a2, a3, a4, a5, a6, a7, a8, a9, a10⟩ := u'
    refine br_f h3 ?_
    unfold wL_law_222
    refine hD _ _ hy (fun v' h2 => ?_)
    obtain ⟨r0, r1, r2, r3, r4, b1, b2, b3, b4, b5, b6, b7, b8, b9, b10⟩ := v'
    exact br_t rfl (zc_tail hJ hc' hF' hW' h' h2)
theorem zc_cell {post : Int32 → Prop} {L : Nat} {xs : Nat → Int32} (k : Nat) (hk : k < 4) (hL : L ≤ 260) (h : ∀ v, post v) : wpL_cell post L xs () (nI k) :=
  pk_le L k (fun _ => h 0) (fun z => ⟨pk_in k L z, h _⟩)
theorem zc_turn {L : Nat} {xs : Nat → Int32} {m i kc ks c : Nat} {g : Int32} {F W M : Nat → Int32} {q0 q1 q2 q3 q4 r0 r1 r2 r3 r4 : Int32} {a1 a2 a3 a4 a5 a6 a7 a8 a9 a10 b1 b2 b3 b4 b5 b6 b7 b8 b9 b10 : Nat → Int32} (hL : L ≤ 260) (hi : i ≤ 260) (hJ : i + 4 ≤ L → zc_J (wL_law_38 (fun r => r = 1) L xs kc ks m) i) (hc : c < 4) (hF : zc_F F) (hW : zc_W W) (hx : zc_R c g F W M (q0, q1, q2, q3, q4, a1, a2, a3, a4, a5, a6, a7, a8, a9, a10)) (hy : zc_R c g F W M (r0, r1, r2, r3, r4, b1, b2, b3, b4, b5, b6, b7, b8, b9, b10)) : wL_law_38 (fun r => r = 1) L xs kc ks (m + 1) (nI i) q0 q1 q2 q3 q4 a1 a2 a3 a4 a5 a6 a7 a8 a9 a10 r0 r1 r2 r3 r4 b1 b2 b3 b4 b5 b6 b7 b8 b9 b10 := by
  refine br_c (fun _ => zc_same hc hF hW hx hy (fun u => ?_)) (fun h => ?_)
  · obtain ⟨q0, q1, q2, q3, q4, a1, a2, a3, a4, a5, a6, a7, a8, a9, a10, r0, r1, r2, r3, r4, b1, b2, b3, b4, b5, b6, b7, b8, b9, b10⟩ := u
    exact (rfl : (1 : Int32) = 1)
  have hl : i + 4 ≤ L := by
    have h' : ¬ (nI L - nI 4 < nI i) := h
    rw [Int32.lt_iff_toInt_lt, pk_sub_toInt (by omega) (by omega), nI_toInt (by omega)] at h'
    omega
  have hJ := hJ hl
  obtain ⟨a, ha, ea⟩ := pk_andE (xs (nI i + 1).toNatClampNeg) (m := 63) 6 (by decide)
  obtain ⟨b, hb, eb⟩ := pk_andE (xs (nI i + 2).toNatClampNeg) (m := 63) 6 (by decide)
  obtain ⟨k, hk, ek⟩ := pk_andE (xs (nI i).toNatClampNeg) (m := 15) 4 (by decide)
  have e3 : nI a &&& 3 = nI (a % 4) := pk_andN (by omega) 2 (by decide)
  have e7 : nI b &&& 7 = nI (b % 8) := pk_andN (by omega) 3 (by decide)
  refine ⟨pk_in (i + 1) L (by omega) (nI_1 i), nm_r ea ⟨pk_in (i + 2) L (by omega) (nI_add i 2), nm_r eb ⟨pk_in (i + 3) L (by omega) (nI_add i 3), fun v _ => ⟨pk_in i L (by omega), nm_r ek ?_⟩⟩⟩⟩
  refine br_f (nI_pos (by omega)) (pk_lt 11 k (fun _ => ?_) (fun h11 => pk_eq k 0 (fun _ => ?_) (fun z0 => pk_eq k 1 (fun _ => zc_c169 hJ hc ha hb hF hW hx hy) (fun z1 => pk_eq k 2 (fun _ => zc_c169 hJ hc ha hb hF hW hx hy) (fun z2 => pk_eq k 3 (fun _ => zc_c169 hJ hc ha hb hF hW hx hy) (fun z3 => pk_eq k 4 (fun _ => zc_c169 hJ hc ha hb hF hW hx hy) (fun z4 => pk_eq k 5 (fun _ => ?_) (fun z5 => pk_eq k 6 (fun _ => ?_) (fun z6 => pk_eq k 7 (fun _ => ?_) (fun z7 => pk_eq k 8 (fun _ => ?_) (fun z8 => pk_eq k 9 (fun _ => ?_) (fun z9 => pk_eq k 10 (fun _ => zc_c412 hJ hc ha hF hW hx hy) (fun z10 => pk_eq k 11 (fun _ => zc_c412 hJ hc ha hF hW hx hy) (fun z11 => trivial))))))))))))))
  · obtain ⟨r, M', hr, hD⟩ := zc_store (c := c) (a := a) (g := g) (v := v) (M := M) hc ha hF hW
    refine hD _ _ hx (fun u' h' => ?_)
    obtain ⟨q0, q1, q2, q3, q4, a1, a2, a3, a4, a5, a6, a7, a8, a9, a10⟩ := u'
    refine hD _ _ hy (fun v' h2 => ?_)
    obtain ⟨r0, r1, r2, r3, r4, b1, b2, b3, b4, b5, b6, b7, b8, b9, b10⟩ := v'
    exact br_t rfl (zc_c476 hJ hc ha hF hW hr h' h2)
  · rw [e3]
    obtain ⟨r, c', g', F', W', M', hc', hF', hW', hD⟩ := zc_enter (c := c) (s := a % 4) (g := g) (M := M) (by omega) hF hW
    refine hD _ _ hx (fun u' h' => ?_)
    obtain ⟨q0, q1, q2, q3, q4, a1, a2, a3, a4, a5, a6, a7, a8, a9, a10⟩ := u'
    refine hD _ _ hy (fun v' h2 => ?_)
    obtain ⟨r0, r1, r2, r3, r4, b1, b2, b3, b4, b5, b6, b7, b8, b9, b10⟩ := v'
    exact br_t rfl (zc_tail hJ hc' hF' hW' h' h2)
  · rw [e3, e7]
    obtain ⟨r, c', g', F', W', M', hc', hF', hW', hD⟩ := zc_unmap (c := c) (s := a % 4) (p := b % 8) (g := g) (M := M) hc (by omega) (by omega) hF hW
    refine hD _ _ hx (fun u' h' => ?_)
    obtain ⟨q0, q1, q2, q3, q4, a1, a2, a3, a4, a5, a6, a7, a8, a9, a10⟩ := u'
    refine hD _ _ hy (fun v' h2 => ?_)
    obtain ⟨r0, r1, r2, r3, r4, b1, b2, b3, b4, b5, b6, b7, b8, b9, b10⟩ := v'
    exact br_t rfl (zc_tail hJ hc' hF' hW' h' h2)
  · refine br_c (fun _ => zc_t305 hJ hc hF hW hx hy) (fun _ => ?_)
    rw [e7]
    obtain ⟨r, c', g', F', W', M', hc', hF', hW', hD⟩ := zc_protect (c := c) (f := b % 8) (g := g) (M := M) hc (by omega) hF hW
    refine hD _ _ hx (fun u' h' => ?_)
    obtain ⟨q0, q1, q2, q3, q4, a1, a2, a3, a4, a5, a6, a7, a8, a9, a10⟩ := u'
    refine hD _ _ hy (fun v' h2 => ?_)
    obtain ⟨r0, r1, r2, r3, r4, b1, b2, b3, b4, b5, b6, b7, b8, b9, b10⟩ := v'
    exact br_t rfl (zc_t305 hJ hc' hF' hW' h' h2)
  · skip
    obtain ⟨r, c', g', F', W', M', hc', hF', hW', hD⟩ := zc_dwD (c := c) (w := a) (g := g) (v := v) (M := M) hc ha hF hW
    refine hD _ _ hx (fun u' h' => ?_)
    obtain ⟨q0, q1, q2, q3, q4, a1, a2, a3, a4, a5, a6, a7, a8, a9, a10⟩ := u'
    refine hD _ _ hy (fun v' h2 => ?_)
    obtain ⟨r0, r1, r2, r3, r4, b1, b2, b3, b4, b5, b6, b7, b8, b9, b10⟩ := v'
    exact br_t rfl (zc_tail hJ hc' hF' hW' h' h2)
  · obtain ⟨t, ht, et⟩ := pk_andE v (m := 15) 4 (by decide)
    rw [et]
    obtain ⟨r, c', g', F', W', M', hc', hF', hW', hD⟩ := zc_dcD (c := c) (a := a) (b := b) (t := t) (g := g) (M := M) hc ha hb ht hF hW
    refine hD _ _ hx (fun u' h' => ?_)
    obtain ⟨q0, q1, q2, q3, q4, a1, a2, a3, a4, a5, a6, a7, a8, a9, a10⟩ := u'
    refine hD _ _ hy (fun v' h2 => ?_)
    obtain ⟨r0, r1, r2, r3, r4, b1, b2, b3, b4, b5, b6, b7, b8, b9, b10⟩ := v'
    exact br_t rfl (zc_tail hJ hc' hF' hW' h' h2)
  · skip
    obtain ⟨r, c', g', F', W', M', hc', hF', hW', hD⟩ := zc_add (c := c) (a := a) (g := g) (v := v) (M := M) hc ha hF hW
    refine hD _ _ hx (fun u' h' => ?_)
    obtain ⟨q0, q1, q2, q3, q4, a1, a2, a3, a4, a5, a6, a7, a8, a9, a10⟩ := u'
    refine hD _ _ hy (fun v' h2 => ?_)
    obtain ⟨r0, r1, r2, r3, r4, b1, b2, b3, b4, b5, b6, b7, b8, b9, b10⟩ := v'
    exact br_t rfl (zc_tail hJ hc' hF' hW' h' h2)
theorem zc_loop {L : Nat} {xs : Nat → Int32} {kc ks c : Nat} {g : Int32} {F W M : Nat → Int32} {q0 q1 q2 q3 q4 r0 r1 r2 r3 r4 : Int32} {a1 a2 a3 a4 a5 a6 a7 a8 a9 a10 b1 b2 b3 b4 b5 b6 b7 b8 b9 b10 : Nat → Int32} (hL : L ≤ 260) (hc : c < 4) (hF : zc_F F) (hW : zc_W W) (hx : zc_R c g F W M (q0, q1, q2, q3, q4, a1, a2, a3, a4, a5, a6, a7, a8, a9, a10)) (hy : zc_R c g F W M (r0, r1, r2, r3, r4, b1, b2, b3, b4, b5, b6, b7, b8, b9, b10)) : ∃ fu, wL_law_38 (fun r => r = 1) L xs kc ks fu 4 q0 q1 q2 q3 q4 a1 a2 a3 a4 a5 a6 a7 a8 a9 a10 r0 r1 r2 r3 r4 b1 b2 b3 b4 b5 b6 b7 b8 b9 b10 := by
  refine loop_m (σ := Nat × St2 × St2) (fun m s => wL_law_38 (fun r => r = 1) L xs kc ks m (nI s.1) s.2.1.1 s.2.1.2.1 s.2.1.2.2.1 s.2.1.2.2.2.1 s.2.1.2.2.2.2.1 s.2.1.2.2.2.2.2.1 s.2.1.2.2.2.2.2.2.1 s.2.1.2.2.2.2.2.2.2.1 s.2.1.2.2.2.2.2.2.2.2.1 s.2.1.2.2.2.2.2.2.2.2.2.1 s.2.1.2.2.2.2.2.2.2.2.2.2.1 s.2.1.2.2.2.2.2.2.2.2.2.2.2.1 s.2.1.2.2.2.2.2.2.2.2.2.2.2.2.1 s.2.1.2.2.2.2.2.2.2.2.2.2.2.2.2.1 s.2.1.2.2.2.2.2.2.2.2.2.2.2.2.2.2 s.2.2.1 s.2.2.2.1 s.2.2.2.2.1 s.2.2.2.2.2.1 s.2.2.2.2.2.2.1 s.2.2.2.2.2.2.2.1 s.2.2.2.2.2.2.2.2.1 s.2.2.2.2.2.2.2.2.2.1 s.2.2.2.2.2.2.2.2.2.2.1 s.2.2.2.2.2.2.2.2.2.2.2.1 s.2.2.2.2.2.2.2.2.2.2.2.2.1 s.2.2.2.2.2.2.2.2.2.2.2.2.2.1 s.2.2.2.2.2.2.2.2.2.2.2.2.2.2.1 s.2.2.2.2.2.2.2.2.2.2.2.2.2.2.2.1 s.2.2.2.2.2.2.2.2.2.2.2.2.2.2.2.2) (fun s => s.1 ≤ 260 ∧ ∃ (c : Nat) (g : Int32) (F W M : Nat → Int32), c < 4 ∧ zc_F F ∧ zc_W W ∧ zc_R c g F W M s.2.1 ∧ zc_R c g F W M s.2.2) (fun s => 260 - s.1) ?_ (4, (q0, q1, q2, q3, q4, a1, a2, a3, a4, a5, a6, a7, a8, a9, a10), (r0, r1, r2, r3, r4, b1, b2, b3, b4, b5, b6, b7, b8, b9, b10)) ⟨show 4 ≤ 260 by omega, c, g, F, W, M, hc, hF, hW, hx, hy⟩
  intro m s hI ih
  obtain ⟨i, ⟨q0, q1, q2, q3, q4, a1, a2, a3, a4, a5, a6, a7, a8, a9, a10⟩, ⟨r0, r1, r2, r3, r4, b1, b2, b3, b4, b5, b6, b7, b8, b9, b10⟩⟩ := s
  obtain ⟨hi, c, g, F, W, M, hc, hF, hW, hx, hy⟩ := hI
  have hi' : i ≤ 260 := hi
  refine zc_turn hL hi' (fun hl => ?_) hc hF hW hx hy
  intro c' g' F' W' M' q0 q1 q2 q3 q4 r0 r1 r2 r3 r4 a1 a2 a3 a4 a5 a6 a7 a8 a9 a10 b1 b2 b3 b4 b5 b6 b7 b8 b9 b10 hc' hF' hW' hx' hy'
  exact ih (i + 4, (q0, q1, q2, q3, q4, a1, a2, a3, a4, a5, a6, a7, a8, a9, a10), (r0, r1, r2, r3, r4, b1, b2, b3, b4, b5, b6, b7, b8, b9, b10)) ⟨show i + 4 ≤ 260 by omega, c', g', F', W', M', hc', hF', hW', hx', hy'⟩ (show 260 - (i + 4) < 260 - i by omega)
theorem i_vc (xs : Nat → Int32) (L : Nat) (hL : L ≤ 260) : wpL_law (fun r => r = 1) L xs := by
  have hF : zc_F (zc_lo 32 (-1)) := fun e he => Or.inl (zc_lo_in he)
  have hW : zc_W (fun _ => 0) := fun e he => Or.inl rfl
  refine zc_cell 0 (by omega) hL (fun s0 => zc_cell 1 (by omega) hL (fun s1 => ⟨10, 192, by omega, by omega, zc_init s0 s1 (fun u hu => ?_)⟩))
  obtain ⟨q0, q1, q2, q3, q4, a1, a2, a3, a4, a5, a6, a7, a8, a9, a10⟩ := u
  refine ⟨by omega, by omega, zc_cell 2 (by omega) hL (fun s2 => zc_cell 3 (by omega) hL (fun s3 => ⟨10, 192, by omega, by omega, zc_init s2 s3 (fun v hv => ?_)⟩))⟩
  obtain ⟨r0, r1, r2, r3, r4, b1, b2, b3, b4, b5, b6, b7, b8, b9, b10⟩ := v
  exact zc_loop hL (by omega) hF hW hu hv
end
