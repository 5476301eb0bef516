section
section
variable {kn fq tq wc rc : Int32} {a1 a2 a3 a4 a5 a6 a7 a8 a9 : Nat → Int32}
/-- two different places -/
def qr_pair (p0 p1 : Int32) : Prop := ∃ i j : Nat, i < 6 ∧ j < 6 ∧ i ≠ j ∧ p0 = nI i ∧ p1 = nI j
/-- the only road's ends, or none (6 and 6) -/
def qr_road (A B : Nat) : Prop := (A < 6 ∧ B < 6 ∧ A ≠ B) ∨ (A = 6 ∧ B = 6)
/-- the table of roads: the only one is 7 long -/
def qr_R (a1 : Nat → Int32) (A B : Nat) : Prop := ∀ j, j < 36 → a1 j = if j = A * 6 + B then 7 else 0
/-- a set holds a place -/
abbrev qr_in (m : Int32) (k : Nat) : Prop := ¬ ((m >>> (nI k &&& 31)) &&& 1) = 0
theorem qr_ix (x y : Nat) : nI x * 6 + nI y = nI (x * 6 + y) := by
  have h : nI x * nI 6 + nI y = nI (x * 6 + y) := by rw [pk_mul, nI_add]
  exact h
theorem qr_ci {x y : Nat} (hx : x < 6) (hy : y < 6) : (nI x * 6 + nI y).toNatClampNeg = x * 6 + y := by
  rw [qr_ix]
  exact nI_clamp (by omega)
theorem qr_ii {x y : Nat} (hx : x < 6) (hy : y < 6) : vp_in (nI x * 6 + nI y) 36 :=
  pk_in (x * 6 + y) 36 (by omega) (qr_ix x y)
theorem qr_R0 {A B x y : Nat} (hR : qr_R a1 A B) (hr : qr_road A B) (hx : x < 6) (hy : y < 6) (h : ¬ (x = A ∧ y = B)) : a1 (x * 6 + y) = 0 := by
  rw [hR _ (by omega)]
  unfold qr_road at hr
  exact if_neg (by omega)
theorem qr_R7 {A B : Nat} (hR : qr_R a1 A B) (hA : A < 6) (hB : B < 6) : a1 (A * 6 + B) = 7 := by
  rw [hR _ (by omega)]
  exact if_pos rfl
theorem qr_b8 : ∀ k, k < 6 → (nI k).toInt8.toInt32 = nI k := by decide +kernel
theorem qr_z : ((0 : Int32) * 6 + 0).toNatClampNeg = 0 := by decide
theorem qr_in1 : ∀ i, i < 6 → ∀ k, k < 6 → ((¬ (((0 ||| ((1 : Int32) <<< (nI i &&& 31))) >>> (nI k &&& 31)) &&& 1) = 0) ↔ k = i) := by decide +kernel
theorem qr_in2 : ∀ i, i < 6 → ∀ k, k < 6 → ((¬ ((((0 ||| ((1 : Int32) <<< (nI i &&& 31))) ||| 0) >>> (nI k &&& 31)) &&& 1) = 0) ↔ k = i) := by decide +kernel
theorem qr_in3 : ∀ i, i < 6 → ∀ j, j < 6 → ∀ k, k < 6 → ((¬ ((((0 ||| ((1 : Int32) <<< (nI i &&& 31))) ||| (0 ||| ((1 : Int32) <<< (nI j &&& 31)))) >>> (nI k &&& 31)) &&& 1) = 0) ↔ (k = i ∨ k = j)) := by decide +kernel
theorem qr_in4 : ∀ i, i < 6 → ∀ j, j < 6 → ∀ k, k < 6 → ((¬ ((((0 ||| ((1 : Int32) <<< (nI i &&& 31))) ||| ((1 : Int32) <<< (nI j &&& 31))) >>> (nI k &&& 31)) &&& 1) = 0) ↔ (k = i ∨ k = j)) := by decide +kernel
theorem qr_in0 : ∀ k, k < 6 → ¬ qr_in 0 k := by decide +kernel
theorem qr_pl (p : Int32) : (p < 0 ∨ 6 ≤ p) ∨ ∃ i : Nat, i < 6 ∧ p = nI i := by
  rcases pk_ix p (n := 6) (by omega) with h | h | h
  · exact Or.inl (Or.inl h)
  · exact Or.inl (Or.inr h)
  · exact Or.inr h
theorem qr_plT {post : Int32 → Prop} {i : Nat} (hi : i < 6) (hp : post 1) : wpX_isPlace post () (nI i) := by
  unfold wpX_isPlace
  exact br_f (nI_pos (by omega)) (br_f (nI_ge (b := 6) hi (by decide)) hp)
theorem qr_plF {post : Int32 → Prop} {p : Int32} (h : p < 0 ∨ 6 ≤ p) (hp : post 0) : wpX_isPlace post () p := by
  unfold wpX_isPlace
  exact br_c (fun _ => hp) (fun z => br_c (fun _ => hp) (fun z2 => h.elim (fun e => absurd e z) (fun e => absurd e z2)))
theorem qr_prT {post : Int32 → Prop} {i j : Nat} (hi : i < 6) (hj : j < 6) (hij : i ≠ j) (hp : post 1) : wpX_isPair post () (nI i) (nI j) := by
  unfold wpX_isPair
  exact qr_plT hi (br_f (by decide) (qr_plT hj (br_f (by decide) (pk_eq i j (fun e => absurd e hij) (fun _ => hp)))))
theorem qr_prF {post : Int32 → Prop} {p0 p1 : Int32} (h : ¬ qr_pair p0 p1) (hp : post 0) : wpX_isPair post () p0 p1 := by
  unfold wpX_isPair
  rcases qr_pl p0 with h0 | ⟨i, hi, rfl⟩
  · exact qr_plF h0 (br_t rfl hp)
  · rcases qr_pl p1 with h1 | ⟨j, hj, rfl⟩
    · exact qr_plT hi (br_f (by decide) (qr_plF h1 (br_t rfl hp)))
    · exact qr_plT hi (br_f (by decide) (qr_plT hj (br_f (by decide) (pk_eq i j (fun _ => hp) (fun e => absurd ⟨i, j, hi, hj, e, rfl, rfl⟩ h)))))
theorem qr_buT {post : Int32 → St2 → Prop} {i j : Nat} (l : Nat) (hi : i < 6) (hj : j < 6) (hij : i ≠ j) (h1 : 1 ≤ l) (h2 : l ≤ 20)
    (hp : post 1 (0, fq, tq, wc, rc, upd a1 (i * 6 + j) (nI l).toInt8.toInt32, a2, a3, a4, a5, a6, a7, a8, a9)) : wpX_build post (kn, fq, tq, wc, rc, a1, a2, a3, a4, a5, a6, a7, a8, a9) (nI i) (nI j) (nI l) := by
  unfold wpX_build
  exact qr_prT hi hj hij (br_f (by decide) (pk_lt l 1 (fun z => absurd z (by omega)) (fun _ => pk_le l 20 (fun _ => ⟨qr_ii hi hj, nm_r (by rw [qr_ci hi hj]) hp⟩) (fun z => absurd z (by omega)))))
theorem qr_buF {post : Int32 → St2 → Prop} {p0 p1 p2 : Int32} (h : ¬ qr_pair p0 p1) (hp : post 0 (kn, fq, tq, wc, rc, a1, a2, a3, a4, a5, a6, a7, a8, a9)) : wpX_build post (kn, fq, tq, wc, rc, a1, a2, a3, a4, a5, a6, a7, a8, a9) p0 p1 p2 := by
  unfold wpX_build
  exact qr_prF h (br_t rfl hp)
theorem qr_roads {post : Int32 → Prop} {A B : Nat} (hR : qr_R a1 A B) (hr : qr_road A B) (hp : post (nI (if A < 6 then 1 else 0))) : wpX_roads post (kn, fq, tq, wc, rc, a1, a2, a3, a4, a5, a6, a7, a8, a9) := by
  unfold wpX_roads
  refine pk_loop (fun n i s => wX_roads_4 post kn fq tq wc rc a1 a2 a3 a4 a5 a6 a7 a8 a9 n s (nI i)) (fun i s => s = nI (if A * 6 + B < i then 1 else 0)) 36 0 (0 : Int32) (by omega) ?_ ?_ ?_
  · show (0 : Int32) = nI (if A * 6 + B < 0 then 1 else 0)
    rw [if_neg (by omega)]
    rfl
  · intro n s h
    refine pk_le 36 36 (fun _ => ?_) (fun z => absurd z (by omega))
    have e : (if A * 6 + B < 36 then 1 else 0) = (if A < 6 then 1 else 0) := by
      unfold qr_road at hr
      by_cases c : A < 6
      · rw [if_pos c, if_pos (by omega)]
      · rw [if_neg c, if_neg (by omega)]
    rw [h, e]
    exact hp
  · intro n i s hi h hw
    refine pk_le 36 i (fun z => absurd z (by omega)) (fun _ => ⟨pk_in i 36 hi, ?_⟩)
    rw [nI_clamp (show i < 2 ^ 31 by omega), hR i hi]
    by_cases e : i = A * 6 + B
    · rw [if_pos e]
      refine br_f (by decide) (nm_e (nm_r (nI_1 i) (hw _ ?_)))
      show s + 1 = nI (if A * 6 + B < i + 1 then 1 else 0)
      rw [h, if_neg (by omega), if_pos (by omega)]
      rfl
    · rw [if_neg e]
      refine br_t (by decide) (nm_r (Int32.add_zero s) (nm_r (nI_1 i) (hw _ ?_)))
      show s = nI (if A * 6 + B < i + 1 then 1 else 0)
      rw [h]
      by_cases c : A * 6 + B < i
      · rw [if_pos c, if_pos (by omega)]
      · rw [if_neg c, if_neg (by omega)]
theorem qr_inT {post : Int32 → Prop} {m : Int32} {k : Nat} (h : qr_in m k) (hp : post 1) : wpX_in post () m (nI k) := by
  unfold wpX_in
  exact br_f h hp
theorem qr_inF {post : Int32 → Prop} {m : Int32} {k : Nat} (h : ¬ qr_in m k) (hp : post 0) : wpX_in post () m (nI k) := by
  unfold wpX_in
  exact br_t (Decidable.of_not_not h) hp
theorem qr_roT {post : Int32 → Prop} {i j : Nat} (hi : i < 6) (hj : j < 6) (hij : i ≠ j) (h : a1 (i * 6 + j) = 7) (hp : post 7) : wpX_road post (kn, fq, tq, wc, rc, a1, a2, a3, a4, a5, a6, a7, a8, a9) (nI i) (nI j) := by
  unfold wpX_road
  refine qr_prT hi hj hij (br_f (by decide) ⟨qr_ii hi hj, ?_⟩)
  rw [qr_ci hi hj, h]
  exact br_f (by decide) ⟨qr_ii hi hj, hp⟩
theorem qr_roF {post : Int32 → Prop} {p0 p1 : Int32} (h : ¬ qr_pair p0 p1) (hp : post (-1)) : wpX_road post (kn, fq, tq, wc, rc, a1, a2, a3, a4, a5, a6, a7, a8, a9) p0 p1 := by
  unfold wpX_road
  exact qr_prF h (br_t rfl hp)
theorem qr_clT {post : Int32 → St2 → Prop} {i j : Nat} (hi : i < 6) (hj : j < 6) (hij : i ≠ j) (h : a1 (i * 6 + j) = 7)
    (hp : post 1 (0, fq, tq, wc, rc, upd a1 (i * 6 + j) 0, a2, a3, a4, a5, a6, a7, a8, a9)) : wpX_close post (kn, fq, tq, wc, rc, a1, a2, a3, a4, a5, a6, a7, a8, a9) (nI i) (nI j) := by
  unfold wpX_close
  exact qr_roT hi hj hij h (br_t (by decide) ⟨qr_ii hi hj, nm_r (by rw [qr_ci hi hj]) hp⟩)
theorem qr_clF {post : Int32 → St2 → Prop} {p0 p1 : Int32} (h : ¬ qr_pair p0 p1) (hp : post 0 (kn, fq, tq, wc, rc, a1, a2, a3, a4, a5, a6, a7, a8, a9)) : wpX_close post (kn, fq, tq, wc, rc, a1, a2, a3, a4, a5, a6, a7, a8, a9) p0 p1 := by
  unfold wpX_close
  exact qr_roF h (br_f (by decide) hp)
end
end
section
section
variable {kn fq tq wc rc : Int32} {a1 a2 a3 a4 a5 a6 a7 a8 a9 : Nat → Int32}
/-- distances to T: 7 at w, far elsewhere -/
def qr_D (T w x : Nat) : Int32 := if x = T then 0 else if x = w then 7 else 1048576
/-- where the distance is 7: A if the road leads to T and neither end is left out, else nowhere (6) -/
def qr_W (m : Int32) (T A B w : Nat) : Prop := (w = A ∧ A < 6 ∧ B = T ∧ ¬ qr_in m A ∧ ¬ qr_in m B) ∨ (w = 6 ∧ ¬ (B = T ∧ ¬ qr_in m A ∧ ¬ qr_in m B))
/-- the distances at turn p of the relaxing, c the turn of the only road -/
def qr_I (T w c p : Nat) (a9 : Nat → Int32) : Prop := ∀ x, x < 6 → a9 x = qr_D T (if c < p then w else 6) x
theorem qr_DT (T w : Nat) : qr_D T w T = 0 := if_pos rfl
theorem qr_Dw {T w : Nat} (h : w ≠ T) : qr_D T w w = 7 := by
  unfold qr_D
  rw [if_neg h, if_pos rfl]
theorem qr_Df {T w x : Nat} (h : x ≠ T) (h2 : x ≠ w) : qr_D T w x = 1048576 := by
  unfold qr_D
  rw [if_neg h, if_neg h2]
theorem qr_Wx (m : Int32) {T A B : Nat} (hr : qr_road A B) (hT : T < 6) : ∃ w, qr_W m T A B w ∧ (A < 6 → w ≠ B) ∧ (w = A ∨ w = 6) := by
  unfold qr_road at hr
  by_cases h : B = T ∧ ¬ qr_in m A ∧ ¬ qr_in m B
  · exact ⟨A, Or.inl ⟨rfl, by omega, h⟩, fun _ => by omega, Or.inl rfl⟩
  · exact ⟨6, Or.inr ⟨rfl, h⟩, fun _ => by omega, Or.inr rfl⟩
theorem qr_I6 {T w c p q : Nat} (hw : w = 6) (h : qr_I T w c p a9) : qr_I T w c q a9 := by
  intro x hx
  rw [h x hx, hw, ite_self, ite_self]
theorem qr_Ik {T w c p : Nat} (hc : c ≠ p) (h : qr_I T w c p a9) : qr_I T w c (p + 1) a9 := by
  intro x hx
  rw [h x hx]
  by_cases e : c < p
  · rw [if_pos e, if_pos (by omega)]
  · rw [if_neg e, if_neg (by omega)]
theorem qr_Iu {T A c p : Nat} (hA : A ≠ T) (hc : c ≤ p) (hn : ¬ c < p) (h : qr_I T A c p a9) : qr_I T A c (p + 1) (upd a9 A 7) := by
  intro x hx
  rw [if_pos (by omega)]
  by_cases e : x = A
  · rw [e, pk_us, qr_Dw hA]
  · rw [pk_un e, h x hx, if_neg hn]
    unfold qr_D
    rw [if_neg e, if_neg (show ¬ x = 6 by omega)]
theorem qr_m52 {post : St2 → Prop} {J33 J42 : Int32 → (Nat → Int32) → (Nat → Int32) → (Nat → Int32) → (Nat → Int32) → (Nat → Int32) → (Nat → Int32) → (Nat → Int32) → (Nat → Int32) → (Nat → Int32) → Prop}
    {m : Int32} {T w A B r a : Nat} (hR : qr_R a1 A B) (hr : qr_road A B) (hT : T < 6) (hW : qr_W m T A B w) (ha : a < 6) (hI : qr_I T w (A * 6 + B) (r * 36 + a * 6) a9)
    (H : ∀ b9, qr_I T w (A * 6 + B) (r * 36 + (a + 1) * 6) b9 → J42 (nI (a + 1)) a1 a2 a3 a4 a5 a6 a7 a8 b9) :
    ∃ n, wX_measure_52 post J33 J42 m (nI r) (nI a) kn fq tq wc rc n 0 a1 a2 a3 a4 a5 a6 a7 a8 a9 := by
  refine pk_loop (fun n b s => wX_measure_52 post J33 J42 m (nI r) (nI a) kn fq tq wc rc n (nI b) a1 a2 a3 a4 a5 a6 a7 a8 s) (fun b s => qr_I T w (A * 6 + B) (r * 36 + a * 6 + b) s) 6 0 a9 (by omega) hI ?_ ?_
  · intro n s h
    refine pk_le 6 6 (fun _ => nm_r (nI_1 a) (H s ?_)) (fun z => absurd z (by omega))
    rw [show r * 36 + (a + 1) * 6 = r * 36 + a * 6 + 6 by omega]
    exact h
  · intro n b s hb h hw
    have skip : qr_I T w (A * 6 + B) (r * 36 + a * 6 + (b + 1)) s → wX_measure_97 post J33 J42 (wX_measure_52 post J33 J42 m (nI r) (nI a) kn fq tq wc rc n) m (nI r) (nI a) (nI b) kn fq tq wc rc a1 a2 a3 a4 a5 a6 a7 a8 s := by
      intro hs
      unfold wX_measure_97 wX_measure_98
      exact br_t rfl (nm_r (nI_1 b) (hw s hs))
    refine pk_le 6 b (fun z => absurd z (by omega)) (fun _ => ⟨qr_ii ha hb, ?_⟩)
    rw [qr_ci ha hb]
    by_cases e : a = A ∧ b = B
    · obtain ⟨rfl, rfl⟩ := e
      have hab : a ≠ b := by
        unfold qr_road at hr
        omega
      rw [qr_R7 hR ha hb]
      refine br_f (by decide) ?_
      by_cases hA : qr_in m a
      · refine qr_inT hA (br_f (by decide) (skip (qr_I6 ?_ h)))
        rcases hW with ⟨_, _, _, h2, _⟩ | ⟨h1, _⟩
        · exact absurd hA h2
        · exact h1
      · refine qr_inF hA (br_t rfl ?_)
        by_cases hB : qr_in m b
        · refine qr_inT hB (br_f (by decide) (skip (qr_I6 ?_ h)))
          rcases hW with ⟨_, _, _, _, h2⟩ | ⟨h1, _⟩
          · exact absurd hB h2
          · exact h1
        · refine qr_inF hB (br_t rfl ?_)
          unfold wX_measure_98
          refine br_f (by decide) ⟨pk_in b 6 hb, qr_ii ha hb, pk_in a 6 ha, ?_⟩
          rw [qr_ci ha hb, nI_clamp (show a < 2 ^ 31 by omega), nI_clamp (show b < 2 ^ 31 by omega), qr_R7 hR ha hb, h a ha, h b hb]
          rcases hW with ⟨h1, _, h2, _, _⟩ | ⟨h1, h2⟩
          · subst h1 h2
            rw [qr_DT]
            by_cases hc : w * 6 + b < r * 36 + w * 6 + b
            · rw [if_pos hc, qr_Dw hab]
              refine br_t (by decide) (nm_r (nI_1 b) (hw s ?_))
              exact qr_Ik (p := r * 36 + w * 6 + b) (by omega) h
            · rw [if_neg hc, qr_Df hab (by omega)]
              refine br_f (by decide) ⟨pk_in b 6 hb, qr_ii ha hb, pk_in w 6 ha, nm_r (e' := upd s w 7) ?_ (nm_r (nI_1 b) (hw _ ?_))⟩
              · rfl
              · exact qr_Iu (p := r * 36 + w * 6 + b) hab (by omega) hc h
          · have hbT : b ≠ T := fun z => h2 ⟨z, hA, hB⟩
            subst h1
            rw [ite_self, qr_Df hbT (by omega)]
            have hle : qr_D T 6 a ≤ 1048576 + 7 := by
              by_cases z : a = T
              · rw [z, qr_DT]
                decide
              · rw [qr_Df z (by omega)]
                decide
            exact br_t hle (nm_r (nI_1 b) (hw s (qr_I6 rfl h)))
    · rw [qr_R0 hR hr ha hb e]
      refine br_t (by decide) (skip ?_)
      by_cases hc : A * 6 + B = r * 36 + a * 6 + b
      · refine qr_I6 ?_ h
        rcases hW with ⟨h1, h2, h3, _, _⟩ | ⟨h1, _⟩
        · unfold qr_road at hr
          omega
        · exact h1
      · exact qr_Ik hc h
theorem qr_m42 {post : St2 → Prop} {J33 : Int32 → (Nat → Int32) → (Nat → Int32) → (Nat → Int32) → (Nat → Int32) → (Nat → Int32) → (Nat → Int32) → (Nat → Int32) → (Nat → Int32) → (Nat → Int32) → Prop}
    {m : Int32} {T w A B r : Nat} (hR : qr_R a1 A B) (hr : qr_road A B) (hT : T < 6) (hW : qr_W m T A B w) (hI : qr_I T w (A * 6 + B) (r * 36) a9)
    (H : ∀ b9, qr_I T w (A * 6 + B) ((r + 1) * 36) b9 → J33 (nI (r + 1)) a1 a2 a3 a4 a5 a6 a7 a8 b9) :
    ∃ n, wX_measure_42 post J33 m (nI r) kn fq tq wc rc n 0 a1 a2 a3 a4 a5 a6 a7 a8 a9 := by
  refine pk_loop (fun n a s => wX_measure_42 post J33 m (nI r) kn fq tq wc rc n (nI a) a1 a2 a3 a4 a5 a6 a7 a8 s) (fun a s => qr_I T w (A * 6 + B) (r * 36 + a * 6) s) 6 0 a9 (by omega) hI ?_ ?_
  · intro n s h
    refine pk_le 6 6 (fun _ => nm_r (nI_1 r) (H s ?_)) (fun z => absurd z (by omega))
    rw [show (r + 1) * 36 = r * 36 + 6 * 6 by omega]
    exact h
  · intro n a s ha h hw
    exact pk_le 6 a (fun z => absurd z (by omega)) (fun _ => qr_m52 hR hr hT hW ha h (fun b9 h9 => hw b9 h9))
theorem qr_m33 {post : St2 → Prop} {m : Int32} {T w A B : Nat} (hR : qr_R a1 A B) (hr : qr_road A B) (hT : T < 6) (hW : qr_W m T A B w) (hI : qr_I T w (A * 6 + B) 0 a9)
    (H : ∀ b9, qr_I T w (A * 6 + B) 216 b9 → post (kn, fq, tq, wc, rc, a1, a2, a3, a4, a5, a6, a7, a8, b9)) :
    ∃ n, wX_measure_33 post m kn fq tq wc rc n 0 a1 a2 a3 a4 a5 a6 a7 a8 a9 := by
  refine pk_loop (fun n r s => wX_measure_33 post m kn fq tq wc rc n (nI r) a1 a2 a3 a4 a5 a6 a7 a8 s) (fun r s => qr_I T w (A * 6 + B) (r * 36) s) 6 0 a9 (by omega) hI ?_ ?_
  · intro n s h
    exact pk_le 6 6 (fun _ => H s h) (fun z => absurd z (by omega))
  · intro n r s ha h hw
    exact pk_le 6 r (fun z => absurd z (by omega)) (fun _ => qr_m42 hR hr hT hW h (fun b9 h9 => hw b9 h9))
theorem qr_measure {post : St2 → Prop} {m : Int32} {T w A B : Nat} (hR : qr_R a1 A B) (hr : qr_road A B) (hT : T < 6) (hW : qr_W m T A B w)
    (hp : ∀ b9 : Nat → Int32, (∀ x, x < 6 → b9 x = qr_D T w x) → post (kn, fq, tq, wc, rc, a1, a2, a3, a4, a5, a6, a7, a8, b9)) :
    wpX_measure post (kn, fq, tq, wc, rc, a1, a2, a3, a4, a5, a6, a7, a8, a9) (nI T) m := by
  unfold wpX_measure
  refine pk_loop (fun n i s => wX_measure_2 post (nI T) m kn fq tq wc rc n (nI i) a1 a2 a3 a4 a5 a6 a7 a8 s) (fun i s => ∀ x, x < i → s x = qr_D T 6 x) 6 0 a9 (by omega) (fun x hx => absurd hx (by omega)) ?_ ?_
  · intro n s h
    refine pk_le 6 6 (fun _ => qr_m33 hR hr hT hW ?_ (fun b9 h9 => hp b9 (fun x hx => ?_))) (fun z => absurd z (by omega))
    · intro x hx
      rw [h x hx, if_neg (by omega)]
    · have hr' := hr
      unfold qr_road at hr'
      rw [h9 x hx, if_pos (by omega)]
  · intro n i s hi h hw
    have F : ∀ v, v = qr_D T 6 i → ∀ x, x < i + 1 → upd s i v x = qr_D T 6 x := by
      intro v hv x hx
      by_cases e : x = i
      · rw [e, pk_us, hv]
      · rw [pk_un e]
        exact h x (by omega)
    refine pk_le 6 i (fun z => absurd z (by omega)) (fun _ => pk_eq i T (fun e => ⟨pk_in i 6 hi, ?_⟩) (fun e => ⟨pk_in i 6 hi, ?_⟩))
    · rw [nI_clamp (show i < 2 ^ 31 by omega)]
      exact nm_e (nm_r (nI_1 i) (hw _ (F 0 (by rw [e, qr_DT]))))
    · rw [nI_clamp (show i < 2 ^ 31 by omega)]
      exact nm_e (nm_r (nI_1 i) (hw _ (F 1048576 (by rw [qr_Df e (by omega)]))))
end
end
section
section
variable {kn fq tq wc rc : Int32} {a1 a2 a3 a4 a5 a6 a7 a8 a9 : Nat → Int32}
theorem qr_bnT {post : Int32 → Prop} {g : Int32} {A B w : Nat} (hR : qr_R a1 A B) (hA : A < 6) (hB : B < 6) (hAB : A ≠ B) (hD : ∀ x, x < 6 → a9 x = qr_D B w x) (hg : ¬ qr_in g B) (hp : post (nI B)) :
    wpX_bestNext post (kn, fq, tq, wc, rc, a1, a2, a3, a4, a5, a6, a7, a8, a9) (nI A) g := by
  unfold wpX_bestNext
  refine pk_loop (fun n b s => wX_bestNext_9 post (nI A) g kn fq tq wc rc a1 a2 a3 a4 a5 a6 a7 a8 a9 n s.1 s.2 (nI b)) (fun b (s : Int32 × Int32) => s = if B < b then (nI B, 7) else (-1, 1048576)) 6 0 ((-1 : Int32), (1048576 : Int32)) (by omega) ?_ ?_ ?_
  · exact (if_neg (by omega)).symm
  · intro n s h
    rw [if_pos hB] at h
    subst h
    exact pk_le 6 6 (fun _ => hp) (fun z => absurd z (by omega))
  · intro n b s hb h hw
    refine pk_le 6 b (fun z => absurd z (by omega)) (fun _ => ⟨qr_ii hA hb, ?_⟩)
    rw [qr_ci hA hb]
    by_cases e : b = B
    · subst e
      rw [if_neg (by omega)] at h
      subst h
      rw [qr_R7 hR hA hb]
      refine br_f (by decide) (qr_inF hg (br_t rfl ⟨pk_in b 6 hb, ?_⟩))
      rw [nI_clamp (show b < 2 ^ 31 by omega), hD b hb, qr_DT]
      refine br_f (by decide) ?_
      unfold wX_bestNext_57
      refine br_f (by decide) ⟨pk_in b 6 hb, qr_ii hA hb, ?_⟩
      rw [qr_ci hA hb, nI_clamp (show b < 2 ^ 31 by omega), hD b hb, qr_DT, qr_R7 hR hA hb]
      refine br_f (by decide) ⟨pk_in b 6 hb, qr_ii hA hb, nm_r (e' := 7) (by decide) (nm_r (nI_1 b) (hw (nI b, 7) ?_))⟩
      exact (if_pos (by omega)).symm
    · rw [qr_R0 hR (Or.inl ⟨hA, hB, hAB⟩) hA hb (fun z => e z.2)]
      refine br_t (by decide) ?_
      unfold wX_bestNext_56 wX_bestNext_57
      refine br_t rfl (nm_r (nI_1 b) (hw s ?_))
      show s = if B < b + 1 then (nI B, 7) else (-1, 1048576)
      rw [h]
      by_cases c : B < b
      · rw [if_pos c, if_pos (by omega)]
      · rw [if_neg c, if_neg (by omega)]
theorem qr_bnF {post : Int32 → Prop} {g : Int32} {S T A B w : Nat} (hR : qr_R a1 A B) (hr : qr_road A B) (hS : S < 6) (hw : A < 6 → w ≠ B) (hD : ∀ x, x < 6 → a9 x = qr_D T w x)
    (hc : ¬ (S = A ∧ B = T ∧ ¬ qr_in g B)) (hp : post (-1)) :
    wpX_bestNext post (kn, fq, tq, wc, rc, a1, a2, a3, a4, a5, a6, a7, a8, a9) (nI S) g := by
  unfold wpX_bestNext
  refine pk_loop (σ := Unit) (fun n b _ => wX_bestNext_9 post (nI S) g kn fq tq wc rc a1 a2 a3 a4 a5 a6 a7 a8 a9 n (-1) 1048576 (nI b)) (fun _ _ => True) 6 0 () (by omega) trivial ?_ ?_
  · intro n _ _
    exact pk_le 6 6 (fun _ => hp) (fun z => absurd z (by omega))
  · intro n b _ hb _ ih
    have skip : wX_bestNext_56 post (wX_bestNext_9 post (nI S) g kn fq tq wc rc a1 a2 a3 a4 a5 a6 a7 a8 a9 n) (nI S) g (-1) 1048576 (nI b) kn fq tq wc rc a1 a2 a3 a4 a5 a6 a7 a8 a9 := by
      unfold wX_bestNext_56 wX_bestNext_57
      exact br_t rfl (nm_r (nI_1 b) (ih () trivial))
    refine pk_le 6 b (fun z => absurd z (by omega)) (fun _ => ⟨qr_ii hS hb, ?_⟩)
    rw [qr_ci hS hb]
    by_cases e : S = A ∧ b = B
    · obtain ⟨rfl, rfl⟩ := e
      rw [qr_R7 hR hS hb]
      refine br_f (by decide) ?_
      by_cases hg : qr_in g b
      · exact qr_inT hg (br_f (by decide) skip)
      · refine qr_inF hg (br_t rfl ⟨pk_in b 6 hb, ?_⟩)
        rw [nI_clamp (show b < 2 ^ 31 by omega), hD b hb, qr_Df (fun z => hc ⟨rfl, z, hg⟩) (fun z => hw hS z.symm)]
        exact br_t (by decide) skip
    · rw [qr_R0 hR hr hS hb e]
      exact br_t (by decide) skip
end
end
section
section
variable {kn fq tq wc rc : Int32} {a1 a2 a3 a4 a5 a6 a7 a8 a9 : Nat → Int32}
/-- no way is found: nothing but the distances changes -/
theorem qr_acF {post : St2 → Prop} {S T A B : Nat} {g : Int32} (hR : qr_R a1 A B) (hr : qr_road A B) (hS : S < 6) (hT : T < 6) (h2 : a2 0 = nI S)
    (hc : ¬ (S = A ∧ B = T ∧ ¬ qr_in ((0 ||| ((1 : Int32) <<< (nI S &&& 31))) ||| g) B))
    (hp : ∀ b9 : Nat → Int32, post (kn, fq, nI T, wc, rc, a1, a2, a3, a4, a5, a6, a7, a8, b9)) :
    wpX_addCandidate post (kn, fq, nI T, wc, rc, a1, a2, a3, a4, a5, a6, a7, a8, a9) 0 0 g := by
  unfold wpX_addCandidate
  obtain ⟨w, hW, hwB, _⟩ := qr_Wx (0 ||| ((1 : Int32) <<< (nI S &&& 31))) hr hT
  have hS2 : a2 ((0 : Int32) * 6 + 0).toNatClampNeg = nI S := by rw [qr_z, h2]
  refine ⟨2, br_f (by decide) ⟨pk_in 0 396 (by decide) (by decide), nm_r (e' := 0 ||| ((1 : Int32) <<< (nI S &&& 31))) (by rw [hS2]) (nm_r (e' := 1) (by decide) ?_)⟩⟩
  refine br_t (by decide) ⟨pk_in 0 396 (by decide) (by decide), nm_r hS2 ?_⟩
  refine qr_measure hR hr hT hW (fun b9 h9 => ?_)
  exact qr_bnF hR hr hS hwB h9 hc (br_t (by decide) (hp b9))
/-- the first way: the only road -/
theorem qr_acT {post : St2 → Prop} {A B : Nat} (hR : qr_R a1 A B) (hA : A < 6) (hB : B < 6) (hAB : A ≠ B) (h2 : a2 0 = nI A)
    (hp : ∀ b2 b3 b4 b5 b6 b7 b9 : Nat → Int32, b2 0 = nI A → b2 1 = nI B → b3 0 = 2 → b4 0 = 7 → b5 0 = 0 → b6 0 = 0 → b7 0 = -1 → post (kn, fq, nI B, 1, rc, a1, b2, b3, b4, b5, b6, b7, a8, b9)) :
    wpX_addCandidate post (kn, fq, nI B, 0, rc, a1, a2, a3, a4, a5, a6, a7, a8, a9) 0 0 0 := by
  unfold wpX_addCandidate
  have hr : qr_road A B := Or.inl ⟨hA, hB, hAB⟩
  obtain ⟨w, hW, hwB, _⟩ := qr_Wx (0 ||| ((1 : Int32) <<< (nI A &&& 31))) hr hB
  have hS2 : a2 ((0 : Int32) * 6 + 0).toNatClampNeg = nI A := by rw [qr_z, h2]
  have hg : ¬ qr_in ((0 ||| ((1 : Int32) <<< (nI A &&& 31))) ||| 0) B := fun z => hAB ((qr_in2 A hA B hB).mp z).symm
  refine ⟨2, br_f (by decide) ⟨pk_in 0 396 (by decide) (by decide), nm_r (e' := 0 ||| ((1 : Int32) <<< (nI A &&& 31))) (by rw [hS2]) (nm_r (e' := 1) (by decide) ?_)⟩⟩
  refine br_t (by decide) ⟨pk_in 0 396 (by decide) (by decide), nm_r hS2 ?_⟩
  refine qr_measure hR hr hB hW (fun b9 h9 => ?_)
  refine qr_bnT hR hA hB hAB h9 hg (br_f (nI_pos (by omega)) (br_t (by decide) ⟨2, ?_⟩))
  refine br_f (by decide) ⟨pk_in 0 396 (by decide) (by decide), pk_in 0 396 (by decide) (by decide), nm_e (br_t (by decide) (nm_r (e' := 0) (by decide) (nm_r (e' := 1) (by decide) ?_)))⟩
  refine br_t (by decide) (nm_r (e' := 1) (by decide) ⟨2, ?_⟩)
  refine br_f (by decide) (br_f (nI_pos (by omega)) ⟨qr_ii hA hB, nm_r (e' := 7) (by rw [qr_ci hA hB, qr_R7 hR hA hB]; decide) ⟨pk_in 1 396 (by decide) (by decide), nm_e (nm_r (e' := 2) (by decide) (br_t rfl (nm_r (e' := 1) (by decide) ?_)))⟩⟩)
  refine br_f (by decide) (br_t (by decide) ?_)
  unfold wX_addCandidate_275
  refine ⟨pk_in 0 66 (by decide) (by decide), nm_e ⟨pk_in 0 66 (by decide) (by decide), nm_e ⟨pk_in 0 66 (by decide) (by decide), nm_e ⟨pk_in 0 66 (by decide) (by decide), nm_e ⟨pk_in 0 66 (by decide) (by decide), nm_e (nm_r (e' := 1) (by decide) (hp _ _ _ _ _ _ _ ?_ ?_ ?_ ?_ ?_ ?_ ?_))⟩⟩⟩⟩⟩
  · rw [hS2, vp_nar_byte, qr_b8 A hA, qr_z, show ((0 : Int32) * 6 + 1).toNatClampNeg = 1 by decide, pk_un (by decide), pk_us]
  · rw [show ((0 : Int32) * 6 + 1).toNatClampNeg = 1 by decide, pk_us, qr_b8 B hB]
  · rw [sb_cl0, pk_us]
    decide
  · rw [sb_cl0, pk_us]
    decide
  · rw [sb_cl0, pk_us]
    decide
  · rw [sb_cl0, pk_us]
    decide
  · rw [sb_cl0, pk_us]
theorem qr_bc0 {post : Int32 → Prop} (hp : post (-1)) : wpX_bestCandidate post (kn, fq, tq, 0, rc, a1, a2, a3, a4, a5, a6, a7, a8, a9) := by
  unfold wpX_bestCandidate
  exact ⟨1, br_t (by decide) hp⟩
theorem qr_bcN {post : Int32 → Prop} (h7 : a7 0 = -1) (hp : post 0) : wpX_bestCandidate post (kn, fq, tq, 1, rc, a1, a2, a3, a4, a5, a6, a7, a8, a9) := by
  unfold wpX_bestCandidate
  refine ⟨2, br_f (by decide) ⟨pk_in 0 66 (by decide) (by decide), ?_⟩⟩
  rw [sb_cl0, h7]
  exact br_f (by decide) (br_t (by decide) (nm_r (e' := 1) (by decide) (br_t (by decide) hp)))
theorem qr_bcR {post : Int32 → Prop} (h7 : a7 0 = 0) (hp : post (-1)) : wpX_bestCandidate post (kn, fq, tq, 1, rc, a1, a2, a3, a4, a5, a6, a7, a8, a9) := by
  unfold wpX_bestCandidate
  refine ⟨2, br_f (by decide) ⟨pk_in 0 66 (by decide) (by decide), ?_⟩⟩
  rw [sb_cl0, h7]
  exact br_t (by decide) (nm_r (e' := 1) (by decide) (br_t (by decide) hp))
end
end
section
section
variable {kn fq tq wc rc : Int32} {a1 a2 a3 a4 a5 a6 a7 a8 a9 : Nat → Int32}
theorem qr_rkF {post : Int32 → St2 → Prop} {p0 p1 : Int32} (h : ¬ qr_pair p0 p1) (hp : post 0 (kn, fq, tq, wc, rc, a1, a2, a3, a4, a5, a6, a7, a8, a9)) : wpX_rank post (kn, fq, tq, wc, rc, a1, a2, a3, a4, a5, a6, a7, a8, a9) p0 p1 := by
  unfold wpX_rank
  exact qr_prF h (br_t rfl hp)
theorem qr_rkK {post : Int32 → St2 → Prop} {S T : Nat} (hS : S < 6) (hT : T < 6) (hST : S ≠ T) (hp : post 1 (1, nI S, nI T, wc, rc, a1, a2, a3, a4, a5, a6, a7, a8, a9)) :
    wpX_rank post (1, nI S, nI T, wc, rc, a1, a2, a3, a4, a5, a6, a7, a8, a9) (nI S) (nI T) := by
  unfold wpX_rank
  exact qr_prT hS hT hST (br_f (by decide) (br_f (by decide) (br_t rfl (br_t rfl hp))))
theorem qr_rk0 {post : Int32 → St2 → Prop} {S T A B : Nat} (hR : qr_R a1 A B) (hr : qr_road A B) (hS : S < 6) (hT : T < 6) (hST : S ≠ T) (hn : ¬ (S = A ∧ T = B))
    (hp : ∀ b2 b9 : Nat → Int32, post 1 (1, nI S, nI T, 0, 0, a1, b2, a3, a4, a5, a6, a7, a8, b9)) :
    wpX_rank post (0, fq, tq, wc, rc, a1, a2, a3, a4, a5, a6, a7, a8, a9) (nI S) (nI T) := by
  unfold wpX_rank
  refine qr_prT hS hT hST (br_f (by decide) (br_t rfl ?_))
  unfold wX_rank_35
  refine nm_e (qr_acF hR hr hS hT (by rw [pk_us, qr_b8 S hS]) (fun z => hn ⟨z.1, z.2.1.symm⟩) (fun b9 => ⟨1, ?_⟩))
  exact br_f (by decide) (qr_bc0 (br_f (by decide) (hp _ b9)))
theorem qr_rkT {post : Int32 → St2 → Prop} {A B : Nat} (hR : qr_R a1 A B) (hA : A < 6) (hB : B < 6) (hAB : A ≠ B)
    (hp : ∀ b2 b3 b4 b5 b6 b7 b8 b9 : Nat → Int32, b2 0 = nI A → b2 1 = nI B → b3 0 = 2 → b4 0 = 7 → b8 0 = 0 → post 1 (1, nI A, nI B, 1, 1, a1, b2, b3, b4, b5, b6, b7, b8, b9)) :
    wpX_rank post (0, fq, tq, wc, rc, a1, a2, a3, a4, a5, a6, a7, a8, a9) (nI A) (nI B) := by
  unfold wpX_rank
  refine qr_prT hA hB hAB (br_f (by decide) (br_t rfl ?_))
  unfold wX_rank_35
  refine nm_e (qr_acT hR hA hB hAB (by rw [pk_us, qr_b8 A hA]) (fun b2 b3 b4 b5 b6 b7 b9 e20 e21 e3 e4 e5 e6 e7 => ⟨3, ?_⟩))
  refine br_f (by decide) (qr_bcN e7 (br_t (by decide) ⟨pk_in 0 66 (by decide) (by decide), nm_e ⟨pk_in 0 66 (by decide) (by decide), nm_e (nm_r (e' := 1) (by decide) ⟨pk_in 0 66 (by decide) (by decide), nm_r (e' := 0) (by rw [sb_cl0, e5]) ⟨2, ?_⟩⟩)⟩⟩))
  refine ⟨pk_in 0 66 (by decide) (by decide), br_f (by rw [sb_cl0, e3]; decide) ⟨pk_in 0 66 (by decide) (by decide), br_t (by rw [sb_cl0, e5]) ⟨pk_in 0 66 (by decide) (by decide), ?_⟩⟩⟩
  unfold wX_rank_176
  refine ⟨pk_in 1 396 (by decide) (by decide), nm_r (e' := nI B) (by rw [show ((0 : Int32) * 6 + 0 + 1).toNatClampNeg = 1 by decide, e21]) ?_⟩
  rw [sb_cl0, e6]
  refine qr_acF hR (Or.inl ⟨hA, hB, hAB⟩) hA hB e20 (fun z => z.2.2 ((qr_in3 A hA B hB B hB).mpr (Or.inr rfl))) (fun b9' => nm_r (e' := 1) (by decide) ?_)
  refine ⟨pk_in 0 66 (by decide) (by decide), br_t (by rw [sb_cl0, e3]; decide) (nm_r (e' := 1) (by decide) ?_)⟩
  refine br_f (by decide) (qr_bcR (by rw [pk_us]; decide) (br_f (by decide) ?_))
  exact hp _ _ _ _ _ _ _ _ e20 e21 e3 e4 (by rw [pk_us]; decide)
end
end
section
section
variable {kn fq tq wc rc : Int32} {a1 a2 a3 a4 a5 a6 a7 a8 a9 : Nat → Int32}
theorem qr_waF {post : Int32 → St2 → Prop} {p0 p1 : Int32} (h : ¬ qr_pair p0 p1) (hp : post 0 (kn, fq, tq, wc, rc, a1, a2, a3, a4, a5, a6, a7, a8, a9)) : wpX_ways post (kn, fq, tq, wc, rc, a1, a2, a3, a4, a5, a6, a7, a8, a9) p0 p1 := by
  unfold wpX_ways
  exact qr_rkF h (br_t rfl hp)
theorem qr_waK {post : Int32 → St2 → Prop} {S T : Nat} (hS : S < 6) (hT : T < 6) (hST : S ≠ T) (hp : post rc (1, nI S, nI T, wc, rc, a1, a2, a3, a4, a5, a6, a7, a8, a9)) :
    wpX_ways post (1, nI S, nI T, wc, rc, a1, a2, a3, a4, a5, a6, a7, a8, a9) (nI S) (nI T) := by
  unfold wpX_ways
  exact qr_rkK hS hT hST (br_f (by decide) hp)
theorem qr_wa0 {post : Int32 → St2 → Prop} {S T A B : Nat} (hR : qr_R a1 A B) (hr : qr_road A B) (hS : S < 6) (hT : T < 6) (hST : S ≠ T) (hn : ¬ (S = A ∧ T = B))
    (hp : ∀ b2 b9 : Nat → Int32, post 0 (1, nI S, nI T, 0, 0, a1, b2, a3, a4, a5, a6, a7, a8, b9)) :
    wpX_ways post (0, fq, tq, wc, rc, a1, a2, a3, a4, a5, a6, a7, a8, a9) (nI S) (nI T) := by
  unfold wpX_ways
  exact qr_rk0 hR hr hS hT hST hn (fun b2 b9 => br_f (by decide) (hp b2 b9))
theorem qr_waT {post : Int32 → St2 → Prop} {A B : Nat} (hR : qr_R a1 A B) (hA : A < 6) (hB : B < 6) (hAB : A ≠ B)
    (hp : ∀ b2 b3 b4 b5 b6 b7 b8 b9 : Nat → Int32, b2 0 = nI A → b2 1 = nI B → b3 0 = 2 → b4 0 = 7 → b8 0 = 0 → post 1 (1, nI A, nI B, 1, 1, a1, b2, b3, b4, b5, b6, b7, b8, b9)) :
    wpX_ways post (0, fq, tq, wc, rc, a1, a2, a3, a4, a5, a6, a7, a8, a9) (nI A) (nI B) := by
  unfold wpX_ways
  exact qr_rkT hR hA hB hAB (fun b2 b3 b4 b5 b6 b7 b8 b9 e20 e21 e3 e4 e8 => br_f (by decide) (hp b2 b3 b4 b5 b6 b7 b8 b9 e20 e21 e3 e4 e8))
theorem qr_wiF {post : Int32 → St2 → Prop} {p0 p1 p2 : Int32} (h : ¬ qr_pair p0 p1) (hp : post 0 (kn, fq, tq, wc, rc, a1, a2, a3, a4, a5, a6, a7, a8, a9)) : wpX_within post (kn, fq, tq, wc, rc, a1, a2, a3, a4, a5, a6, a7, a8, a9) p0 p1 p2 := by
  unfold wpX_within
  exact qr_rkF h (br_t rfl hp)
theorem qr_wi0 {post : Int32 → St2 → Prop} {S T : Nat} {p2 : Int32} (hS : S < 6) (hT : T < 6) (hST : S ≠ T) (hp : post 0 (1, nI S, nI T, wc, 0, a1, a2, a3, a4, a5, a6, a7, a8, a9)) :
    wpX_within post (1, nI S, nI T, wc, 0, a1, a2, a3, a4, a5, a6, a7, a8, a9) (nI S) (nI T) p2 := by
  unfold wpX_within
  exact qr_rkK hS hT hST (br_f (by decide) ⟨1, br_t (by decide) hp⟩)
theorem qr_wi1 {post : Int32 → St2 → Prop} {S T : Nat} {p2 : Int32} (hS : S < 6) (hT : T < 6) (hST : S ≠ T) (h4 : a4 0 = 7) (h8 : a8 0 = 0)
    (hp0 : p2 < 7 → post 0 (1, nI S, nI T, wc, 1, a1, a2, a3, a4, a5, a6, a7, a8, a9))
    (hp1 : ¬ p2 < 7 → post 1 (1, nI S, nI T, wc, 1, a1, a2, a3, a4, a5, a6, a7, a8, a9)) :
    wpX_within post (1, nI S, nI T, wc, 1, a1, a2, a3, a4, a5, a6, a7, a8, a9) (nI S) (nI T) p2 := by
  unfold wpX_within
  have e8 : a8 (0 : Int32).toNatClampNeg = 0 := by rw [sb_cl0, h8]
  have e4 : a4 (a8 (0 : Int32).toNatClampNeg).toNatClampNeg = 7 := by rw [e8, sb_cl0, h4]
  refine qr_rkK hS hT hST (br_f (by decide) ⟨2, br_f (by decide) ⟨pk_in 0 66 (by decide) (by decide), pk_in 0 66 (by decide) (by rw [e8]; rfl), ?_⟩⟩)
  rw [e4]
  exact br_c hp0 (fun z => nm_r (e' := 1) (by decide) (br_t (by decide) (hp1 z)))
theorem qr_po {post : Int32 → Prop} {A B : Nat} {k : Int32} (hk : k = 0) (h20 : a2 0 = nI A) (h21 : a2 1 = nI B) (h3 : a3 0 = 2)
    (hp : post ((0 ||| ((1 : Int32) <<< (nI A &&& 31))) ||| ((1 : Int32) <<< (nI B &&& 31)))) :
    wpX_placesOf post (kn, fq, tq, wc, rc, a1, a2, a3, a4, a5, a6, a7, a8, a9) k := by
  subst hk
  unfold wpX_placesOf
  have e3 : a3 (0 : Int32).toNatClampNeg = 2 := by rw [sb_cl0, h3]
  refine ⟨3, pk_in 0 66 (by decide) (by decide), br_f (by rw [e3]; decide) ⟨pk_in 0 396 (by decide) (by decide), nm_r (e' := 0 ||| ((1 : Int32) <<< (nI A &&& 31))) (by rw [qr_z, h20]) (nm_r (e' := 1) (by decide) ?_)⟩⟩
  refine ⟨pk_in 0 66 (by decide) (by decide), br_f (by rw [e3]; decide) ⟨pk_in 1 396 (by decide) (by decide), nm_r (e' := (0 ||| ((1 : Int32) <<< (nI A &&& 31))) ||| ((1 : Int32) <<< (nI B &&& 31))) (by rw [show ((0 : Int32) * 6 + 1).toNatClampNeg = 1 by decide, h21]) (nm_r (e' := 2) (by decide) ?_)⟩⟩
  exact ⟨pk_in 0 66 (by decide) (by decide), br_t (by rw [e3]; decide) hp⟩
theorem qr_faF {post : Int32 → St2 → Prop} {p0 p1 p2 : Int32} (h : ¬ qr_pair p0 p1) (hp : post (-1) (kn, fq, tq, wc, rc, a1, a2, a3, a4, a5, a6, a7, a8, a9)) : wpX_firstAvoiding post (kn, fq, tq, wc, rc, a1, a2, a3, a4, a5, a6, a7, a8, a9) p0 p1 p2 := by
  unfold wpX_firstAvoiding
  rcases qr_pl p2 with h2 | ⟨k, hk, rfl⟩
  · exact qr_plF h2 (br_t rfl hp)
  · exact qr_plT hk (br_f (by decide) (br_c (fun _ => hp) (fun _ => br_c (fun _ => hp) (fun _ => qr_rkF h (br_t rfl hp)))))
theorem qr_fa0 {post : Int32 → St2 → Prop} {S T : Nat} {p2 : Int32} (hS : S < 6) (hT : T < 6) (hST : S ≠ T) (hp : post (-1) (1, nI S, nI T, wc, 0, a1, a2, a3, a4, a5, a6, a7, a8, a9)) :
    wpX_firstAvoiding post (1, nI S, nI T, wc, 0, a1, a2, a3, a4, a5, a6, a7, a8, a9) (nI S) (nI T) p2 := by
  unfold wpX_firstAvoiding
  rcases qr_pl p2 with h2 | ⟨k, hk, rfl⟩
  · exact qr_plF h2 (br_t rfl hp)
  · exact qr_plT hk (br_f (by decide) (br_c (fun _ => hp) (fun _ => br_c (fun _ => hp) (fun _ => qr_rkK hS hT hST (br_f (by decide) ⟨1, br_t (by decide) hp⟩)))))
theorem qr_fa1 {post : Int32 → St2 → Prop} {A B : Nat} {p2 : Int32} (hA : A < 6) (hB : B < 6) (hAB : A ≠ B) (h20 : a2 0 = nI A) (h21 : a2 1 = nI B) (h3 : a3 0 = 2) (h8 : a8 0 = 0)
    (hp0 : ¬ p2 < 0 → ¬ 5 < p2 → ¬ p2 = nI A → ¬ p2 = nI B → post 0 (1, nI A, nI B, wc, 1, a1, a2, a3, a4, a5, a6, a7, a8, a9))
    (hp1 : (p2 < 0 ∨ 5 < p2 ∨ p2 = nI A ∨ p2 = nI B) → post (-1) (1, nI A, nI B, wc, 1, a1, a2, a3, a4, a5, a6, a7, a8, a9)) :
    wpX_firstAvoiding post (1, nI A, nI B, wc, 1, a1, a2, a3, a4, a5, a6, a7, a8, a9) (nI A) (nI B) p2 := by
  unfold wpX_firstAvoiding
  rcases qr_pl p2 with h2 | ⟨k, hk, rfl⟩
  · refine qr_plF h2 (br_t rfl (hp1 ?_))
    rcases h2 with h2 | h2
    · exact Or.inl h2
    · exact Or.inr (Or.inl (Int32.lt_of_lt_of_le (by decide) h2))
  · refine qr_plT hk (br_f (by decide) (br_c (fun e => hp1 (Or.inr (Or.inr (Or.inl e)))) (fun e1 => br_c (fun e => hp1 (Or.inr (Or.inr (Or.inr e)))) (fun e2 => qr_rkK hA hB hAB (br_f (by decide) ⟨1, ?_⟩)))))
    refine br_f (by decide) ⟨pk_in 0 66 (by decide) (by decide), ?_⟩
    refine qr_po (by rw [sb_cl0, h8]) h20 h21 h3 ?_
    refine qr_inF (fun z => ?_) (br_t rfl (hp0 (nI_pos (by omega)) (nI_nlt (b := k) (a := 5) (by omega) (by omega)) e1 e2))
    rcases (qr_in4 A hA B hB k hk).mp z with e | e
    · exact e1 (congrArg nI e)
    · exact e2 (congrArg nI e)
theorem qr_atF {post : Int32 → St2 → Prop} {p0 p1 p2 : Int32} (h : ¬ qr_pair p0 p1) (hp : post (-1) (kn, fq, tq, wc, rc, a1, a2, a3, a4, a5, a6, a7, a8, a9)) : wpX_length post (kn, fq, tq, wc, rc, a1, a2, a3, a4, a5, a6, a7, a8, a9) p0 p1 p2 := by
  unfold wpX_length wpX_wayAt
  exact qr_rkF h (br_t rfl (br_f (by decide) hp))
theorem qr_at0 {post : Int32 → St2 → Prop} {S T : Nat} (hS : S < 6) (hT : T < 6) (hST : S ≠ T) (hp : post (-1) (1, nI S, nI T, wc, 0, a1, a2, a3, a4, a5, a6, a7, a8, a9)) :
    wpX_length post (1, nI S, nI T, wc, 0, a1, a2, a3, a4, a5, a6, a7, a8, a9) (nI S) (nI T) 0 := by
  unfold wpX_length wpX_wayAt
  exact qr_rkK hS hT hST (br_f (by decide) (br_f (by decide) (br_t (by decide) (br_f (by decide) hp))))
theorem qr_at1 {post : Int32 → St2 → Prop} {S T : Nat} (hS : S < 6) (hT : T < 6) (hST : S ≠ T) (h4 : a4 0 = 7) (h8 : a8 0 = 0) (hp : post 7 (1, nI S, nI T, wc, 1, a1, a2, a3, a4, a5, a6, a7, a8, a9)) :
    wpX_length post (1, nI S, nI T, wc, 1, a1, a2, a3, a4, a5, a6, a7, a8, a9) (nI S) (nI T) 0 := by
  unfold wpX_length wpX_wayAt
  have e8 : a8 (0 : Int32).toNatClampNeg = 0 := by rw [sb_cl0, h8]
  have e4 : a4 (a8 (0 : Int32).toNatClampNeg).toNatClampNeg = 7 := by rw [e8, sb_cl0, h4]
  refine qr_rkK hS hT hST (br_f (by decide) (br_f (by decide) (br_f (by decide) ⟨pk_in 0 66 (by decide) (by decide), br_t (by rw [e8]; decide) ⟨pk_in 0 66 (by decide) (by rw [e8]; rfl), ?_⟩⟩)))
  rw [e4]
  exact hp
/-- the road is taken away, and laid again -/
theorem qr_Ru {A B : Nat} (hR : qr_R a1 A B) (hA : A < 6) (hB : B < 6) : qr_R (upd a1 (A * 6 + B) 0) 6 6 := by
  intro j hj
  rw [if_neg (by omega)]
  by_cases e : j = A * 6 + B
  · rw [e, pk_us]
  · rw [pk_un e, hR j hj, if_neg e]
theorem qr_Rv {A B : Nat} (hR : qr_R a1 A B) (hA : A < 6) (hB : B < 6) : qr_R (upd (upd a1 (A * 6 + B) 0) (A * 6 + B) (vp_nar .byte 7)) A B := by
  intro j hj
  by_cases e : j = A * 6 + B
  · rw [e, pk_us, if_pos rfl, vp_nar_byte]
    decide
  · rw [pk_un e, pk_un e, hR j hj]
theorem qr_deF {post : Int32 → St2 → Prop} {p0 p1 p2 p3 : Int32} (h : ¬ qr_pair p0 p1) (hp : post 0 (kn, fq, tq, wc, rc, a1, a2, a3, a4, a5, a6, a7, a8, a9)) : wpX_detour post (kn, fq, tq, wc, rc, a1, a2, a3, a4, a5, a6, a7, a8, a9) p0 p1 p2 p3 := by
  unfold wpX_detour
  exact qr_prF h (br_t rfl hp)
theorem qr_deR {post : Int32 → St2 → Prop} {S T : Nat} {p2 p3 : Int32} (hS : S < 6) (hT : T < 6) (hST : S ≠ T) (h : ¬ qr_pair p2 p3) (hp : post 0 (kn, fq, tq, wc, rc, a1, a2, a3, a4, a5, a6, a7, a8, a9)) : wpX_detour post (kn, fq, tq, wc, rc, a1, a2, a3, a4, a5, a6, a7, a8, a9) (nI S) (nI T) p2 p3 := by
  unfold wpX_detour
  exact qr_prT hS hT hST (br_f (by decide) (qr_roF h (br_f (by decide) hp)))
theorem qr_de {post : Int32 → St2 → Prop} {S T A B : Nat} (hR : qr_R a1 A B) (hA : A < 6) (hB : B < 6) (hAB : A ≠ B) (hS : S < 6) (hT : T < 6) (hST : S ≠ T)
    (hp0 : ¬ (S = A ∧ T = B) → ∀ b1 b9 : Nat → Int32, qr_R b1 A B → post 0 (kn, fq, tq, wc, rc, b1, a2, a3, a4, a5, a6, a7, a8, b9))
    (hp1 : S = A ∧ T = B → ∀ b1 b9 : Nat → Int32, qr_R b1 A B → post (-1) (kn, fq, tq, wc, rc, b1, a2, a3, a4, a5, a6, a7, a8, b9)) :
    wpX_detour post (kn, fq, tq, wc, rc, a1, a2, a3, a4, a5, a6, a7, a8, a9) (nI S) (nI T) (nI A) (nI B) := by
  unfold wpX_detour
  have hr : qr_road A B := Or.inl ⟨hA, hB, hAB⟩
  have hr6 : qr_road 6 6 := Or.inr ⟨rfl, rfl⟩
  obtain ⟨w, hW, _, hwA⟩ := qr_Wx 0 hr hT
  obtain ⟨w', hW', _, hw'⟩ := qr_Wx 0 hr6 hT
  have cS : (nI S).toNatClampNeg = S := nI_clamp (by omega)
  refine qr_prT hS hT hST (br_f (by decide) (qr_roT hA hB hAB (qr_R7 hR hA hB) (br_t (by decide) (qr_measure hR hr hT hW (fun b9 h9 => ?_)))))
  refine ⟨pk_in S 6 hS, nm_r (e' := qr_D T w S) (by rw [cS, h9 S hS]) ⟨qr_ii hA hB, nm_r (e' := 7) (by rw [qr_ci hA hB, qr_R7 hR hA hB]) ⟨qr_ii hA hB, nm_r (e' := upd a1 (A * 6 + B) 0) (by rw [qr_ci hA hB]) (qr_measure (qr_Ru hR hA hB) hr6 hT hW' (fun c9 k9 => ?_))⟩⟩⟩
  refine ⟨qr_ii hA hB, nm_r (e' := upd (upd a1 (A * 6 + B) 0) (A * 6 + B) (vp_nar .byte 7)) (by rw [qr_ci hA hB]) ?_⟩
  have k6 : c9 (nI S).toNatClampNeg = 1048576 := by
    rw [cS, k9 S hS]
    exact qr_Df hST (by omega)
  by_cases e : S = A ∧ T = B
  · have hD : qr_D T w S = 7 := by
      have hwS : w = S := by
        rcases hW with ⟨h1, _⟩ | ⟨_, h2⟩
        · rw [h1, e.1]
        · exact absurd ⟨e.2.symm, qr_in0 A hA, qr_in0 B hB⟩ h2
      rw [hwS]
      exact qr_Dw hST
    rw [hD, k6]
    exact br_t (by decide) ⟨pk_in S 6 hS, br_t (by decide) (hp1 e _ _ (qr_Rv hR hA hB))⟩
  · have hD : qr_D T w S = 1048576 := by
      refine qr_Df hST (fun z => ?_)
      rcases hW with ⟨h1, _, h3, _⟩ | ⟨h1, _⟩
      · exact e ⟨by omega, h3.symm⟩
      · omega
    rw [hD]
    exact br_f (by decide) (hp0 e _ _ (qr_Rv hR hA hB))
end
end
section
section
variable {kn fq tq wc rc : Int32} {a1 a2 a3 a4 a5 a6 a7 a8 a9 : Nat → Int32}
variable {x0 x1 x2 x3 x4 x5 x7 x9 x11 x12 : Int32} {mc ms kc ks A B S T : Nat} {post : Int32 → St0 → Prop}
theorem qr_wiV {post : Int32 → St2 → Prop} {p2 : Int32} (hS : S < 6) (hT : T < 6) (hST : S ≠ T) (h4 : a4 0 = 7) (h8 : a8 0 = 0)
    (hp : ∀ r : Int32, (p2 < 7 → r = 0) → (¬ p2 < 7 → r = 1) → post r (1, nI S, nI T, wc, 1, a1, a2, a3, a4, a5, a6, a7, a8, a9)) :
    wpX_within post (1, nI S, nI T, wc, 1, a1, a2, a3, a4, a5, a6, a7, a8, a9) (nI S) (nI T) p2 :=
  qr_wi1 hS hT hST h4 h8 (fun z => hp 0 (fun _ => rfl) (fun y => absurd z y)) (fun z => hp 1 (fun y => absurd y z) (fun _ => rfl))
theorem qr_faV {post : Int32 → St2 → Prop} {p2 : Int32} (hA : A < 6) (hB : B < 6) (hAB : A ≠ B) (h20 : a2 0 = nI A) (h21 : a2 1 = nI B) (h3 : a3 0 = 2) (h8 : a8 0 = 0)
    (hp : ∀ r : Int32, ((p2 < 0 ∨ 5 < p2 ∨ p2 = nI A ∨ p2 = nI B) → r = -1) → (¬ (p2 < 0 ∨ 5 < p2 ∨ p2 = nI A ∨ p2 = nI B) → r = 0) → post r (1, nI A, nI B, wc, 1, a1, a2, a3, a4, a5, a6, a7, a8, a9)) :
    wpX_firstAvoiding post (1, nI A, nI B, wc, 1, a1, a2, a3, a4, a5, a6, a7, a8, a9) (nI A) (nI B) p2 :=
  qr_fa1 hA hB hAB h20 h21 h3 h8
    (fun h1 h2 h3 h4 => hp 0 (fun z => z.elim (fun y => absurd y h1) (fun z => z.elim (fun y => absurd y h2) (fun z => z.elim (fun y => absurd y h3) (fun y => absurd y h4)))) (fun _ => rfl))
    (fun z => hp (-1) (fun _ => rfl) (fun y => absurd z y))
/-- the law's answers: no pair asked for -/
theorem qr_192F (hf : (A < 6 ∧ B < 6 ∧ A ≠ B ∧ x0 = nI A ∧ x1 = nI B ∧ x7 = 1) ∨ (A = 6 ∧ B = 6 ∧ ¬ qr_pair x0 x1 ∧ x7 = 0)) (hR : qr_R a1 A B) (h : ¬ qr_pair x2 x3) (h9 : x9 = nI (if A < 6 then 1 else 0)) (hp : post 1 ()) :
    wL_lawOf_192 post mc ms x0 x1 x2 x3 x4 x5 x7 x9 0 0 (-1) 0 (-1) kc ks kn fq tq wc rc a1 a2 a3 a4 a5 a6 a7 a8 a9 := by
  have hr : qr_road A B := by
    rcases hf with ⟨h1, h2, h3, _⟩ | ⟨h1, h2, _⟩
    · exact Or.inl ⟨h1, h2, h3⟩
    · exact Or.inr ⟨h1, h2⟩
  unfold wL_lawOf_192
  refine qr_roads hR hr (br_t h9.symm ?_)
  refine qr_waF h (br_t rfl ?_)
  refine qr_wiF h (br_t rfl ?_)
  refine qr_faF h (br_t rfl ?_)
  refine qr_deF h (br_t rfl ?_)
  refine qr_atF h (br_t rfl ?_)
  rcases hf with ⟨hA, hB, hAB, rfl, rfl, rfl⟩ | ⟨_, _, hn, rfl⟩
  · refine qr_clT hA hB hAB (qr_R7 hR hA hB) (br_t rfl ?_)
    exact qr_waF h (br_t rfl hp)
  · refine qr_clF hn (br_t rfl ?_)
    exact qr_waF h (br_t rfl hp)
/-- the law's answers: a pair without a way -/
theorem qr_192N (hf : (A < 6 ∧ B < 6 ∧ A ≠ B ∧ x0 = nI A ∧ x1 = nI B ∧ x7 = 1) ∨ (A = 6 ∧ B = 6 ∧ ¬ qr_pair x0 x1 ∧ x7 = 0)) (hR : qr_R a1 A B) (hS : S < 6) (hT : T < 6) (hST : S ≠ T) (hn : ¬ (S = A ∧ T = B)) (h9 : x9 = nI (if A < 6 then 1 else 0)) (hp : post 1 ()) :
    wL_lawOf_192 post mc ms x0 x1 (nI S) (nI T) x4 x5 x7 x9 0 0 (-1) 0 (-1) kc ks 0 fq tq wc rc a1 a2 a3 a4 a5 a6 a7 a8 a9 := by
  have hr : qr_road A B := by
    rcases hf with ⟨h1, h2, h3, _⟩ | ⟨h1, h2, _⟩
    · exact Or.inl ⟨h1, h2, h3⟩
    · exact Or.inr ⟨h1, h2⟩
  unfold wL_lawOf_192
  refine qr_roads hR hr (br_t h9.symm ?_)
  refine qr_wa0 hR hr hS hT hST hn (fun b2 b9 => br_t rfl ?_)
  refine qr_wi0 hS hT hST (br_t rfl ?_)
  refine qr_fa0 hS hT hST (br_t rfl ?_)
  rcases hf with ⟨hA, hB, hAB, rfl, rfl, rfl⟩ | ⟨_, _, hz, rfl⟩
  · refine qr_de hR hA hB hAB hS hT hST (fun _ c1 c9 hb => br_t rfl ?_) (fun e => absurd e hn)
    refine qr_at0 hS hT hST (br_t rfl ?_)
    refine qr_clT hA hB hAB (qr_R7 hb hA hB) (br_t rfl ?_)
    exact qr_wa0 (qr_Ru hb hA hB) (Or.inr ⟨rfl, rfl⟩) hS hT hST (by omega) (fun _ _ => br_t rfl hp)
  · refine qr_deR hS hT hST hz (br_t rfl ?_)
    refine qr_at0 hS hT hST (br_t rfl ?_)
    refine qr_clF hz (br_t rfl ?_)
    exact qr_waK hS hT hST (br_t rfl hp)
/-- the law's answers: the way -/
theorem qr_192W (hR : qr_R a1 A B) (hA : A < 6) (hB : B < 6) (hAB : A ≠ B) (h11a : x5 < 7 → x11 = 0) (h11b : ¬ x5 < 7 → x11 = 1)
    (h12a : (x4 < 0 ∨ 5 < x4 ∨ x4 = nI A ∨ x4 = nI B) → x12 = -1) (h12b : ¬ (x4 < 0 ∨ 5 < x4 ∨ x4 = nI A ∨ x4 = nI B) → x12 = 0) (hp : post 1 ()) :
    wL_lawOf_192 post mc ms (nI A) (nI B) (nI A) (nI B) x4 x5 1 1 1 x11 x12 (-1) 7 kc ks 0 fq tq wc rc a1 a2 a3 a4 a5 a6 a7 a8 a9 := by
  unfold wL_lawOf_192
  refine qr_roads hR (Or.inl ⟨hA, hB, hAB⟩) (br_t (by rw [if_pos hA]; rfl) ?_)
  refine qr_waT hR hA hB hAB (fun b2 b3 b4 b5 b6 b7 b8 b9 e20 e21 e3 e4 e8 => br_t rfl ?_)
  refine qr_wiV hA hB hAB e4 e8 (fun r ra rb => br_t ?_ ?_)
  · by_cases z : x5 < 7
    · rw [ra z, h11a z]
    · rw [rb z, h11b z]
  refine qr_faV hA hB hAB e20 e21 e3 e8 (fun r ra rb => br_t ?_ ?_)
  · by_cases z : x4 < 0 ∨ 5 < x4 ∨ x4 = nI A ∨ x4 = nI B
    · rw [ra z, h12a z]
    · rw [rb z, h12b z]
  refine qr_de hR hA hB hAB hA hB hAB (fun e => absurd ⟨rfl, rfl⟩ e) (fun _ c1 c9 hb => br_t rfl ?_)
  refine qr_at1 hA hB hAB e4 e8 (br_t rfl ?_)
  refine qr_clT hA hB hAB (qr_R7 hb hA hB) (br_t rfl ?_)
  exact qr_wa0 (qr_Ru hb hA hB) (Or.inr ⟨rfl, rfl⟩) hA hB hAB (by omega) (fun _ _ => br_t rfl hp)
theorem qr_167W (hR : qr_R a1 A B) (hA : A < 6) (hB : B < 6) (hAB : A ≠ B) (h11a : x5 < 7 → x11 = 0) (h11b : ¬ x5 < 7 → x11 = 1)
    (h12a : (x4 < 0 ∨ 5 < x4 ∨ x4 = nI A ∨ x4 = nI B) → x12 = -1) (h12b : ¬ (x4 < 0 ∨ 5 < x4 ∨ x4 = nI A ∨ x4 = nI B) → x12 = 0) (hp : post 1 ()) :
    wL_lawOf_167 post mc ms (nI A) (nI B) (nI A) (nI B) x4 x5 1 1 1 1 x11 x12 kc ks 0 fq tq wc rc a1 a2 a3 a4 a5 a6 a7 a8 a9 := by
  unfold wL_lawOf_167
  refine br_f (by decide) ?_
  unfold wL_lawOf_179
  exact br_f (by decide) (qr_192W hR hA hB hAB h11a h11b h12a h12b hp)
theorem qr_132W (hR : qr_R a1 A B) (hA : A < 6) (hB : B < 6) (hAB : A ≠ B) (h11a : x5 < 7 → x11 = 0) (h11b : ¬ x5 < 7 → x11 = 1) (hp : post 1 ()) :
    wL_lawOf_132 post mc ms (nI A) (nI B) (nI A) (nI B) x4 x5 1 1 1 1 x11 kc ks 0 fq tq wc rc a1 a2 a3 a4 a5 a6 a7 a8 a9 := by
  have k : (x4 < 0 ∨ 5 < x4 ∨ x4 = nI A ∨ x4 = nI B) → wL_lawOf_166 post mc ms (nI A) (nI B) (nI A) (nI B) x4 x5 1 1 1 1 x11 kc ks 0 fq tq wc rc a1 a2 a3 a4 a5 a6 a7 a8 a9 := by
    intro z
    unfold wL_lawOf_166
    exact qr_167W hR hA hB hAB h11a h11b (fun _ => rfl) (fun y => absurd z y) hp
  unfold wL_lawOf_132
  refine br_f (by decide) (br_c (fun z => k (Or.inl z)) (fun z1 => br_c (fun z => k (Or.inr (Or.inl z))) (fun z2 => br_c (fun z => k (Or.inr (Or.inr (Or.inl z)))) (fun z3 => br_c (fun z => k (Or.inr (Or.inr (Or.inr z)))) (fun z4 => ?_)))))
  refine qr_167W hR hA hB hAB h11a h11b (fun z => ?_) (fun _ => rfl) hp
  rcases z with z | z | z | z
  · exact absurd z z1
  · exact absurd z z2
  · exact absurd z z3
  · exact absurd z z4
theorem qr_101W (hR : qr_R a1 A B) (hA : A < 6) (hB : B < 6) (hAB : A ≠ B) (hp : post 1 ()) :
    wL_lawOf_101 post mc ms (nI A) (nI B) (nI A) (nI B) x4 x5 1 1 1 kc ks 0 fq tq wc rc a1 a2 a3 a4 a5 a6 a7 a8 a9 := by
  unfold wL_lawOf_101
  refine br_f (by decide) ?_
  unfold wL_lawOf_113
  refine br_f (by decide) (br_c (fun z => ?_) (fun z => ?_))
  · unfold wL_lawOf_131
    exact qr_132W hR hA hB hAB (fun _ => rfl) (fun y => absurd z y) hp
  · exact qr_132W hR hA hB hAB (fun y => absurd y z) (fun _ => rfl) hp
theorem qr_101N (h : wL_lawOf_192 post mc ms x0 x1 x2 x3 x4 x5 x7 x9 0 0 (-1) 0 (-1) kc ks kn fq tq wc rc a1 a2 a3 a4 a5 a6 a7 a8 a9) :
    wL_lawOf_101 post mc ms x0 x1 x2 x3 x4 x5 x7 0 x9 kc ks kn fq tq wc rc a1 a2 a3 a4 a5 a6 a7 a8 a9 := by
  unfold wL_lawOf_101
  refine br_t rfl ?_
  unfold wL_lawOf_113
  refine br_t rfl ?_
  unfold wL_lawOf_131 wL_lawOf_132
  refine br_t rfl ?_
  unfold wL_lawOf_166 wL_lawOf_167
  refine br_t rfl ?_
  unfold wL_lawOf_179
  exact br_t rfl h
theorem qr_192X (hf : (A < 6 ∧ B < 6 ∧ A ≠ B ∧ x0 = nI A ∧ x1 = nI B ∧ x7 = 1) ∨ (A = 6 ∧ B = 6 ∧ ¬ qr_pair x0 x1 ∧ x7 = 0)) (hR : qr_R a1 A B) (hn : ¬ (x2 = nI A ∧ x3 = nI B)) (h9 : x9 = nI (if A < 6 then 1 else 0)) (hp : post 1 ()) :
    wL_lawOf_192 post mc ms x0 x1 x2 x3 x4 x5 x7 x9 0 0 (-1) 0 (-1) kc ks 0 fq tq wc rc a1 a2 a3 a4 a5 a6 a7 a8 a9 := by
  by_cases h : qr_pair x2 x3
  · obtain ⟨S, T, hS, hT, hST, rfl, rfl⟩ := h
    exact qr_192N hf hR hS hT hST (fun z => hn ⟨congrArg nI z.1, congrArg nI z.2⟩) h9 hp
  · exact qr_192F hf hR h h9 hp
/-- the two buildings -/
theorem qr_Rb (hA : A < 6) (hB : B < 6) : qr_R (upd (upd (fun _ => 0) (A * 6 + B) (nI 20).toInt8.toInt32) (A * 6 + B) (nI 7).toInt8.toInt32) A B := by
  intro j hj
  by_cases e : j = A * 6 + B
  · rw [e, pk_us, if_pos rfl]
    decide
  · rw [pk_un e, pk_un e, if_neg e]
theorem qr_59W (hA : A < 6) (hB : B < 6) (hAB : A ≠ B) (hp : post 1 ()) :
    wL_lawOf_59 post mc ms (nI A) (nI B) (nI A) (nI B) x4 x5 1 1 kc ks kn fq tq wc rc (fun _ => 0) a2 a3 a4 a5 a6 a7 a8 a9 := by
  unfold wL_lawOf_59
  refine qr_buT 20 hA hB hAB (by omega) (by omega) (br_t rfl ?_)
  refine qr_buT 7 hA hB hAB (by omega) (by omega) (br_t rfl (br_f (by decide) ?_))
  exact qr_101W (qr_Rb hA hB) hA hB hAB hp
theorem qr_59N (hA : A < 6) (hB : B < 6) (hAB : A ≠ B) (hn : ¬ (x2 = nI A ∧ x3 = nI B)) (hp : post 1 ()) :
    wL_lawOf_59 post mc ms (nI A) (nI B) x2 x3 x4 x5 1 0 kc ks kn fq tq wc rc (fun _ => 0) a2 a3 a4 a5 a6 a7 a8 a9 := by
  unfold wL_lawOf_59
  refine qr_buT 20 hA hB hAB (by omega) (by omega) (br_t rfl ?_)
  refine qr_buT 7 hA hB hAB (by omega) (by omega) (br_t rfl (br_f (by decide) ?_))
  exact qr_101N (qr_192X (Or.inl ⟨hA, hB, hAB, rfl, rfl, rfl⟩) (qr_Rb hA hB) hn (by rw [if_pos hA]; rfl) hp)
theorem qr_59F (h : ¬ qr_pair x0 x1) (hp : post 1 ()) :
    wL_lawOf_59 post mc ms x0 x1 x2 x3 x4 x5 0 0 kc ks 0 fq tq wc rc (fun _ => 0) a2 a3 a4 a5 a6 a7 a8 a9 := by
  unfold wL_lawOf_59
  refine qr_buF h (br_t rfl ?_)
  refine qr_buF h (br_t rfl (br_t rfl ?_))
  by_cases hn : x2 = nI 6 ∧ x3 = nI 6
  · refine qr_101N (qr_192F (A := 6) (B := 6) (Or.inr ⟨rfl, rfl, h, rfl⟩) (fun j hj => (if_neg (by omega)).symm) ?_ rfl hp)
    rintro ⟨i, j, hi, hj, _, e1, _⟩
    have e : nI i = nI 6 := e1.symm.trans hn.1
    have := (nI_eq (by omega) (by omega)).mp e
    omega
  · exact qr_101N (qr_192X (A := 6) (B := 6) (Or.inr ⟨rfl, rfl, h, rfl⟩) (fun j hj => (if_neg (by omega)).symm) hn rfl hp)
theorem qr_lawOf {p0 p1 p2 p3 p4 p5 : Int32} (hp : post 1 ()) : wpL_lawOf post 148 2352 () p0 p1 p2 p3 p4 p5 := by
  unfold wpL_lawOf
  refine ⟨by decide, by decide, 147, 2338, by decide, by decide, ?_⟩
  unfold wpX_init
  refine ⟨by decide, by decide, by decide, by decide, by decide, by decide, by decide, by decide, by decide, by decide, by decide, by decide, by decide, by decide, by decide, by decide, by decide, by decide, ?_⟩
  by_cases hf : qr_pair p0 p1
  · obtain ⟨A, B, hA, hB, hAB, rfl, rfl⟩ := hf
    refine br_f (nI_pos (by omega)) (br_f (nI_nlt (a := 5) (b := A) (by omega) (by omega)) (br_f (nI_pos (by omega)) (br_f (nI_nlt (a := 5) (b := B) (by omega) (by omega)) (pk_eq A B (fun e => absurd e hAB) (fun _ => ?_)))))
    unfold wL_lawOf_37
    refine br_f (by decide) (br_c (fun e => br_c (fun e' => ?_) (fun e' => ?_)) (fun e => ?_))
    · subst e e'
      exact qr_59W hA hB hAB hp
    · unfold wL_lawOf_58
      exact qr_59N hA hB hAB (fun z => e' z.2) hp
    · unfold wL_lawOf_58
      exact qr_59N hA hB hAB (fun z => e z.1) hp
  · have k : ∀ kc ks, wL_lawOf_36 post 148 2352 p0 p1 p2 p3 p4 p5 kc ks 0 0 0 0 0 (fun _ => 0) (fun _ => 0) (fun _ => 0) (fun _ => 0) (fun _ => 0) (fun _ => 0) (fun _ => 0) (fun _ => 0) (fun _ => 0) := by
      intro kc ks
      unfold wL_lawOf_36 wL_lawOf_37
      refine br_t rfl ?_
      unfold wL_lawOf_58
      exact qr_59F hf hp
    refine br_c (fun _ => k _ _) (fun z1 => br_c (fun _ => k _ _) (fun z2 => br_c (fun _ => k _ _) (fun z3 => br_c (fun _ => k _ _) (fun z4 => br_c (fun _ => k _ _) (fun z5 => ?_)))))
    refine absurd ?_ hf
    rcases qr_pl p0 with (h | h) | ⟨i, hi, e0⟩
    · exact absurd h z1
    · exact absurd (Int32.lt_of_lt_of_le (by decide) h) z2
    · rcases qr_pl p1 with (h | h) | ⟨j, hj, e1⟩
      · exact absurd h z3
      · exact absurd (Int32.lt_of_lt_of_le (by decide) h) z4
      · exact ⟨i, j, hi, hj, fun e => z5 (by rw [e0, e1, e]), e0, e1⟩
theorem qr_ce {post : Int32 → Prop} {xs : Nat → Int32} {L : Nat} (k : Nat) (hL : L ≤ 6) (hk : k < 6) (h : ∀ r, post r) : wpL_cellAt post L xs () (nI k) := by
  unfold wpL_cellAt
  exact pk_le L k (fun _ => h _) (fun z => ⟨pk_in k L z, h _⟩)
end
end
section
theorem i_vc (xs : Nat → Int32) (L : Nat) (hL : L ≤ 6) : wpL_law (fun r => r = 1) L xs := by
  unfold wpL_law
  refine qr_ce 0 hL (by decide) (fun r1 => ?_)
  refine qr_ce 1 hL (by decide) (fun r2 => ?_)
  refine qr_ce 2 hL (by decide) (fun r3 => ?_)
  refine qr_ce 3 hL (by decide) (fun r4 => ?_)
  refine qr_ce 4 hL (by decide) (fun r5 => ?_)
  refine qr_ce 5 hL (by decide) (fun r6 => ?_)
  exact ⟨148, 2352, by decide, by decide, qr_lawOf rfl⟩
end
