section
section
variable {g : Int32} {a1 a2 a3 a4 a5 a6 a7 a8 a9 a10 a11 a12 : Nat → Int32}
theorem cn_fill {f s : Nat → Int32} {i k : Nat} {x : Int32} (hk : k = i) (h : ∀ j, j < i → s j = f j) (hx : x = f i) : ∀ j, j < i + 1 → upd s k x j = f j := by
  intro j hj
  rw [hk]
  by_cases e : j = i
  · rw [e, pk_us, hx]
  · rw [pk_un e]
    exact h j (by omega)
theorem cn_ix9 (a b : Nat) : (9 : Int32) * nI a + nI b = nI (9 * a + b) := by
  rw [show (9 : Int32) = nI 9 from rfl, pk_mul, nI_add]
theorem cn_ix7 (a b : Nat) : (7 : Int32) * nI a + nI b = nI (7 * a + b) := by
  rw [show (7 : Int32) = nI 7 from rfl, pk_mul, nI_add]
theorem cn_cl9 {a b : Nat} (ha : a < 9) (hb : b < 9) : ((9 : Int32) * nI a + nI b).toNatClampNeg = 9 * a + b := by
  rw [cn_ix9]
  exact nI_clamp (by omega)
theorem cn_cl7 {a b : Nat} (ha : a < 7) (hb : b < 7) : ((7 : Int32) * nI a + nI b).toNatClampNeg = 7 * a + b := by
  rw [cn_ix7]
  exact nI_clamp (by omega)
theorem cn_in9 {a b : Nat} (ha : a < 9) (hb : b < 9) : vp_in ((9 : Int32) * nI a + nI b) 81 := pk_in (9 * a + b) 81 (by omega) (cn_ix9 a b)
theorem cn_in7 {a b : Nat} (ha : a < 7) (hb : b < 7) : vp_in ((7 : Int32) * nI a + nI b) 49 := pk_in (7 * a + b) 49 (by omega) (cn_ix7 a b)
/-- two different members -/
def cn_isP (x y : Int32) : Prop := ∃ a b : Nat, a < 7 ∧ b < 7 ∧ a ≠ b ∧ x = nI a ∧ y = nI b
theorem cn_mem {x : Int32} (h : ¬ x < 0) (h6 : ¬ 6 < x) : ∃ j : Nat, j < 7 ∧ x = nI j := by
  obtain ⟨j, hj, e⟩ := nI_of2 (x := x) (M := 6) (n := 6) (by decide) h (Int32.not_lt.mp h6)
  exact ⟨j, by omega, e⟩
theorem cn_mem7 {x : Int32} (h : ¬ x < 0) (h7 : ¬ 7 ≤ x) : ∃ j : Nat, j < 7 ∧ x = nI j := by
  rcases pk_ix x (n := 7) (by omega) with z | z | z
  · exact absurd z h
  · exact absurd z h7
  · exact z
theorem cn_pair_t {post : Int32 → Prop} {a b : Nat} (ha : a < 7) (hb : b < 7) (hn : a ≠ b) (h : post 1) : wpX_arePair post () (nI a) (nI b) := by
  unfold wpX_arePair wpX_isMember
  exact br_f (nI_pos (by omega)) (br_f (nI_ge (b := 7) ha (by decide)) (br_f (by decide) (br_f (nI_pos (by omega)) (br_f (nI_ge (b := 7) hb (by decide)) (br_f (by decide) (pk_eq a b (fun z => absurd z hn) (fun _ => h)))))))
theorem cn_pair_f {post : Int32 → Prop} {x y : Int32} (hn : ¬ cn_isP x y) (h : post 0) : wpX_arePair post () x y := by
  unfold wpX_arePair wpX_isMember
  refine br_c (fun _ => br_t rfl h) (fun h1 => br_c (fun _ => br_t rfl h) (fun h2 => br_f (by decide) (br_c (fun _ => br_t rfl h) (fun h3 => br_c (fun _ => br_t rfl h) (fun h4 => br_f (by decide) (br_c (fun _ => h) (fun h5 => ?_)))))))
  obtain ⟨a, ha, ea⟩ := cn_mem7 h1 h2
  obtain ⟨b, hb, eb⟩ := cn_mem7 h3 h4
  exact absurd ⟨a, b, ha, hb, fun z => h5 (by rw [ea, eb, z]), ea, eb⟩ hn
theorem cn_copy {post : St2 → Prop} (H : ∀ w : Nat → Int32, (∀ k, k < 81 → w k = a3 k) → post (g, a1, a2, a3, a4, a5, a6, w, a8, a9, a10, a11, a12)) : wpX_copyFree post (g, a1, a2, a3, a4, a5, a6, a7, a8, a9, a10, a11, a12) :=
  pk_loop (fun n i s => wX_copyFree_2 post g n (nI i) a1 a2 a3 a4 a5 a6 s a8 a9 a10 a11 a12) (fun i s => ∀ j, j < i → s j = a3 j) 81 0 a7 (by omega) (fun j hj => absurd hj (by omega))
    (fun n s h => pk_le 81 81 (fun _ => H s h) (fun z => absurd z (by omega)))
    (fun n i s hi h hw => pk_le 81 i (fun z => absurd z (by omega)) (fun _ => ⟨pk_in i 81 hi, pk_in i 81 hi, nm_e (nm_r (nI_1 i) (hw _ (cn_fill (nI_clamp (by omega)) h (by rw [nI_clamp (by omega)]))))⟩))
def cn_kO (w f : Nat → Int32) : Prop := ∀ k, k < 81 → (63 ≤ k ∨ 7 ≤ k % 9) → f k = w k
def cn_kI (w f : Nat → Int32) (m : Nat) (s : Nat → Int32) : Prop := cn_kO w f → (∀ k, k < m → s k = w k) ∧ (∀ k, m ≤ k → k < 81 → s k = f k)
theorem cn_kstep {w f s : Nat → Int32} {m : Nat} (h : cn_kI w f m s) : cn_kI w f (m + 1) (upd s m (w m)) := by
  intro hO
  obtain ⟨h1, h2⟩ := h hO
  exact ⟨cn_fill rfl h1 rfl, fun k hk h81 => by rw [pk_un (by omega)]; exact h2 k (by omega) h81⟩
theorem cn_kskip {w f s : Nat → Int32} {m : Nat} (hm : m < 81) (ho : 63 ≤ m ∨ 7 ≤ m % 9) (h : cn_kI w f m s) : cn_kI w f (m + 1) s := by
  intro hO
  obtain ⟨h1, h2⟩ := h hO
  refine ⟨fun k hk => ?_, fun k hk h81 => h2 k (by omega) h81⟩
  by_cases e : k = m
  · rw [e, h2 m (by omega) hm]
    exact hO m hm ho
  · exact h1 k (by omega)
theorem cn_keep_in {post : St2 → Prop} {J : Int32 → (Nat → Int32) → (Nat → Int32) → (Nat → Int32) → (Nat → Int32) → (Nat → Int32) → (Nat → Int32) → (Nat → Int32) → (Nat → Int32) → (Nat → Int32) → (Nat → Int32) → (Nat → Int32) → (Nat → Int32) → Prop} {i : Nat} {f s0 : Nat → Int32} (hi : i < 7) (h0 : cn_kI a7 f (9 * i) s0) (H : ∀ s, cn_kI a7 f (9 * i + 7) s → J (nI (i + 1)) a1 a2 s a4 a5 a6 a7 a8 a9 a10 a11 a12) : ∃ n, wX_keepWork_10 post J (nI i) g n 0 a1 a2 s0 a4 a5 a6 a7 a8 a9 a10 a11 a12 :=
  pk_loop (fun n j s => wX_keepWork_10 post J (nI i) g n (nI j) a1 a2 s a4 a5 a6 a7 a8 a9 a10 a11 a12) (fun j s => cn_kI a7 f (9 * i + j) s) 7 0 s0 (by omega) h0
    (fun n s h => pk_le 7 7 (fun _ => nm_r (nI_1 i) (H s h)) (fun z => absurd z (by omega)))
    (fun n j s hj h hw => pk_le 7 j (fun z => absurd z (by omega)) (fun _ => ⟨cn_in9 (by omega) (by omega), cn_in9 (by omega) (by omega), nm_r (e' := upd s (9 * i + j) (a7 (9 * i + j))) (by rw [cn_cl9 (by omega) (by omega)]) (nm_r (nI_1 j) (hw _ (cn_kstep h)))⟩))
theorem cn_keep {post : St2 → Prop} (H : ∀ s : Nat → Int32, (cn_kO a7 a3 → ∀ k, k < 81 → s k = a7 k) → post (g, a1, a2, s, a4, a5, a6, a7, a8, a9, a10, a11, a12)) : wpX_keepWork post (g, a1, a2, a3, a4, a5, a6, a7, a8, a9, a10, a11, a12) :=
  pk_loop (fun n i s => wX_keepWork_2 post g n (nI i) a1 a2 s a4 a5 a6 a7 a8 a9 a10 a11 a12) (fun i s => cn_kI a7 a3 (9 * i) s) 7 0 a3 (by omega) (fun _ => ⟨fun k hk => absurd hk (by omega), fun k _ _ => rfl⟩)
    (fun n s h => pk_le 7 7 (fun _ => H s (fun hO k hk => by
      obtain ⟨h1, h2⟩ := h hO
      by_cases e : k < 63
      · exact h1 k e
      · rw [h2 k (by omega) hk]
        exact hO k hk (Or.inl (by omega)))) (fun z => absurd z (by omega)))
    (fun n i s hi h hw => pk_le 7 i (fun z => absurd z (by omega)) (fun _ => cn_keep_in hi h (fun s' h' => hw s' (cn_kskip (m := 9 * i + 8) (by omega) (Or.inr (by omega)) (cn_kskip (m := 9 * i + 7) (by omega) (Or.inr (by omega)) h')))))
end
end
section
section
variable {g : Int32} {a1 a2 a3 a4 a5 a6 a7 a8 a9 a10 a11 a12 : Nat → Int32}
theorem cn_fwI {post : Int32 → St2 → Prop} {F : Nat} {x2 : Int32} (hF : F < 9) (H : ∀ c : Nat → Int32, (∀ k, k < 9 → c k = -1) → ∃ n, wX_findWay_40 post x2 g n 1 0 a1 a2 a3 a4 a5 a6 a7 a8 (upd c F (nI F)) (upd a10 0 (nI F)) a11 a12) : wpX_findWay post (g, a1, a2, a3, a4, a5, a6, a7, a8, a9, a10, a11, a12) (nI F) x2 :=
  pk_loop (fun n i s => wX_findWay_2 post (nI F) x2 g n (nI i) a1 a2 a3 a4 a5 a6 a7 a8 s a10 a11 a12) (fun i s => ∀ j, j < i → s j = -1) 9 0 a9 (by omega) (fun j hj => absurd hj (by omega))
    (fun n s h => pk_le 9 9 (fun _ => ⟨pk_in F 9 hF, nm_r (e' := upd s F (nI F)) (by rw [nI_clamp (by omega)]) (nm_e (H s h))⟩) (fun z => absurd z (by omega)))
    (fun n i s hi h hw => pk_le 9 i (fun z => absurd z (by omega)) (fun _ => ⟨pk_in i 9 hi, nm_e (nm_r (nI_1 i) (hw _ (cn_fill (f := fun _ => -1) (nI_clamp (by omega)) h rfl)))⟩))
theorem cn_fwN {post : Int32 → St2 → Prop} {J : Int32 → Int32 → (Nat → Int32) → (Nat → Int32) → (Nat → Int32) → (Nat → Int32) → (Nat → Int32) → (Nat → Int32) → (Nat → Int32) → (Nat → Int32) → (Nat → Int32) → (Nat → Int32) → (Nat → Int32) → (Nat → Int32) → Prop} {x2 x3 : Int32} {q U : Nat} (hU : U < 9) (h : ∀ b, b < 9 → a7 (9 * U + b) ≤ 0) (hJ : J x3 (nI (q + 1)) a1 a2 a3 a4 a5 a6 a7 a8 a9 a10 a11 a12) : ∃ n, wX_findWay_65 post J x2 (nI q) (nI U) g n x3 0 a1 a2 a3 a4 a5 a6 a7 a8 a9 a10 a11 a12 :=
  pk_loop (σ := Unit) (fun n i _ => wX_findWay_65 post J x2 (nI q) (nI U) g n x3 (nI i) a1 a2 a3 a4 a5 a6 a7 a8 a9 a10 a11 a12) (fun _ _ => True) 9 0 () (by omega) trivial
    (fun n _ _ => pk_le 9 9 (fun _ => nm_r (nI_1 q) hJ) (fun z => absurd z (by omega)))
    (fun n i _ hi _ hw => pk_le 9 i (fun z => absurd z (by omega)) (fun _ => ⟨cn_in9 hU hi, br_t (by rw [cn_cl9 hU hi]; exact h i hi) (nm_r (nI_1 i) (hw () trivial))⟩))
theorem cn_fwO {post : Int32 → St2 → Prop} {J : Int32 → Int32 → (Nat → Int32) → (Nat → Int32) → (Nat → Int32) → (Nat → Int32) → (Nat → Int32) → (Nat → Int32) → (Nat → Int32) → (Nat → Int32) → (Nat → Int32) → (Nat → Int32) → (Nat → Int32) → (Nat → Int32) → Prop} {x2 : Int32} {q U V P : Nat} (hU : U < 9) (hV : V < 9) (hP : P < 9) (hp : ¬ a7 (9 * U + V) ≤ 0) (ho : ∀ b, b < 9 → b ≠ V → a7 (9 * U + b) ≤ 0) (hc : ¬ 0 ≤ a9 V)
    (hJ : J (nI (P + 1)) (nI (q + 1)) a1 a2 a3 a4 a5 a6 a7 a8 (upd a9 V (nI U)) (upd a10 P (nI V)) a11 a12) : ∃ n, wX_findWay_65 post J x2 (nI q) (nI U) g n (nI P) 0 a1 a2 a3 a4 a5 a6 a7 a8 a9 a10 a11 a12 := by
  refine pk_loop (σ := Nat × (Nat → Int32) × (Nat → Int32)) (fun n i s => wX_findWay_65 post J x2 (nI q) (nI U) g n (nI s.1) (nI i) a1 a2 a3 a4 a5 a6 a7 a8 s.2.1 s.2.2 a11 a12) (fun i s => (i ≤ V → s = (P, a9, a10)) ∧ (V < i → s = (P + 1, upd a9 V (nI U), upd a10 P (nI V)))) 9 0 (P, a9, a10) (by omega) ⟨fun _ => rfl, fun z => absurd z (by omega)⟩ ?_ ?_
  · intro n s h
    obtain rfl := h.2 hV
    exact pk_le 9 9 (fun _ => nm_r (nI_1 q) hJ) (fun z => absurd z (by omega))
  · intro n i s hi h hw
    rcases Nat.lt_trichotomy i V with c | c | c
    · obtain rfl := h.1 (by omega)
      exact pk_le 9 i (fun z => absurd z (by omega)) (fun _ => ⟨cn_in9 hU hi, br_t (by rw [cn_cl9 hU hi]; exact ho i hi (by omega)) (nm_r (nI_1 i) (hw (P, a9, a10) ⟨fun _ => rfl, fun z => absurd z (by omega)⟩))⟩)
    · subst c
      obtain rfl := h.1 (by omega)
      exact pk_le 9 i (fun z => absurd z (by omega)) (fun _ => ⟨cn_in9 hU hi, br_f (by rw [cn_cl9 hU hi]; exact hp) ⟨pk_in i 9 hi, br_f (by rw [nI_clamp (by omega)]; exact hc) ⟨pk_in i 9 hi, nm_r (e' := upd a9 i (nI U)) (by rw [nI_clamp (by omega)]) ⟨pk_in P 9 hP, nm_r (e' := upd a10 P (nI i)) (by rw [nI_clamp (by omega)]) (nm_r (nI_1 P) (nm_r (nI_1 i) (hw (P + 1, upd a9 i (nI U), upd a10 P (nI i)) ⟨fun z => absurd z (by omega), fun _ => rfl⟩)))⟩⟩⟩⟩)
    · obtain rfl := h.2 c
      exact pk_le 9 i (fun z => absurd z (by omega)) (fun _ => ⟨cn_in9 hU hi, br_t (by rw [cn_cl9 hU hi]; exact ho i hi (by omega)) (nm_r (nI_1 i) (hw (P + 1, upd a9 V (nI U), upd a10 P (nI V)) ⟨fun z => absurd z (by omega), fun _ => rfl⟩))⟩)
theorem cn_fw_no {post : Int32 → St2 → Prop} {F T : Nat} (hF : F < 9) (hT : T < 9) (hn : F ≠ T) (h : ∀ b, b < 9 → a7 (9 * F + b) ≤ 0) (H : ∀ c l, post 0 (g, a1, a2, a3, a4, a5, a6, a7, a8, c, l, a11, a12)) : wpX_findWay post (g, a1, a2, a3, a4, a5, a6, a7, a8, a9, a10, a11, a12) (nI F) (nI T) :=
  cn_fwI hF (fun c hc => ⟨2, pk_le 1 0 (fun z => absurd z (by omega)) (fun _ => pk_le 9 0 (fun z => absurd z (by omega)) (fun _ => ⟨pk_in 0 9 (by omega), nm_r (e' := nI F) (by rw [sb_cl0]; exact pk_us) (cn_fwN (q := 0) hF h (pk_le 1 1 (fun _ => And.intro (pk_in T 9 hT) (br_t (by rw [nI_clamp (by omega), pk_un (Ne.symm hn), hc T hT]; decide) (H _ _))) (fun z => absurd z (by omega))))⟩))⟩)
theorem cn_fw_one {post : Int32 → St2 → Prop} {F V T : Nat} (hF : F < 9) (hV : V < 9) (hT : T < 9) (hFV : F ≠ V) (hFT : F ≠ T) (hp : ¬ a7 (9 * F + V) ≤ 0) (ho : ∀ b, b < 9 → b ≠ V → a7 (9 * F + b) ≤ 0) (hv : ∀ b, b < 9 → a7 (9 * V + b) ≤ 0)
    (H1 : T = V → ∀ c l, c V = nI F → post 1 (g, a1, a2, a3, a4, a5, a6, a7, a8, c, l, a11, a12)) (H0 : T ≠ V → ∀ c l, post 0 (g, a1, a2, a3, a4, a5, a6, a7, a8, c, l, a11, a12)) : wpX_findWay post (g, a1, a2, a3, a4, a5, a6, a7, a8, a9, a10, a11, a12) (nI F) (nI T) := by
  refine cn_fwI hF (fun c hc => ⟨3, pk_le 1 0 (fun z => absurd z (by omega)) (fun _ => pk_le 9 0 (fun z => absurd z (by omega)) (fun _ => ⟨pk_in 0 9 (by omega), nm_r (e' := nI F) (by rw [sb_cl0]; exact pk_us) (cn_fwO (q := 0) (P := 1) hF hV (by omega) hp ho ?_ ?_)⟩))⟩)
  · rw [pk_un (Ne.symm hFV), hc V hV]
    decide
  · refine pk_le 2 1 (fun z => absurd z (by omega)) (fun _ => pk_le 9 1 (fun z => absurd z (by omega)) (fun _ => ⟨pk_in 1 9 (by omega), nm_r (e' := nI V) (by rw [nI_clamp (by omega)]; exact pk_us) (cn_fwN (q := 1) hV hv (pk_le 2 2 (fun _ => And.intro (pk_in T 9 hT) ?_) (fun z => absurd z (by omega))))⟩))
    rw [nI_clamp (show T < 2 ^ 31 by omega)]
    by_cases e : T = V
    · rw [e, pk_us]
      exact br_f (nI_pos (by omega)) (H1 e _ _ pk_us)
    · rw [pk_un e, pk_un (Ne.symm hFT), hc T hT]
      exact br_t (by decide) (H0 e _ _)
theorem cn_narrow {post : Int32 → Prop} {F V t : Nat} (hF : F < 9) (hV : V < 9) (hn : F ≠ V) (hc : a9 V = nI F) (ht : a7 (9 * F + V) = nI t) (h1 : t < 1000000) (H : post (nI t)) : wpX_narrowest post (g, a1, a2, a3, a4, a5, a6, a7, a8, a9, a10, a11, a12) (nI F) (nI V) :=
  Exists.intro 2 (pk_le 9 0 (fun z => absurd z (by omega)) (fun _ => pk_eq V F (fun z => absurd z.symm hn) (fun _ => ⟨pk_in V 9 hV, nm_r (e' := nI F) (by rw [nI_clamp (by omega)]; exact hc) ⟨cn_in9 hF hV, nm_r (e' := nI t) (by rw [cn_cl9 hF hV]; exact ht) (pk_le 1000000 t (fun z => absurd z (by omega)) (fun _ => nm_r (e' := nI 1) (nI_1 0) (pk_le 9 1 (fun z => absurd z (by omega)) (fun _ => pk_eq F F (fun _ => H) (fun z => absurd rfl z)))))⟩⟩)))
theorem cn_two {f : Nat → Int32} {p q : Nat} {x : Int32} (h : p ≠ q) (k : Nat) : upd (upd f p (f p - x)) q (upd f p (f p - x) q + x) k = if k = p then f k - x else if k = q then f k + x else f k := by
  by_cases e : k = p
  · rw [if_pos e, e, pk_un h, pk_us]
  · rw [if_neg e]
    by_cases e2 : k = q
    · rw [if_pos e2, e2, pk_us, pk_un (Ne.symm h)]
    · rw [if_neg e2, pk_un e2, pk_un e]
theorem cn_push {post : St2 → Prop} {F V : Nat} {x : Int32} (hF : F < 9) (hV : V < 9) (hn : F ≠ V) (hc : a9 V = nI F) (H : ∀ w : Nat → Int32, (∀ k, w k = if k = 9 * F + V then a7 k - x else if k = 9 * V + F then a7 k + x else a7 k) → post (g, a1, a2, a3, a4, a5, a6, w, a8, a9, a10, a11, a12)) : wpX_push post (g, a1, a2, a3, a4, a5, a6, a7, a8, a9, a10, a11, a12) (nI F) (nI V) x :=
  Exists.intro 2 (pk_le 9 0 (fun z => absurd z (by omega)) (fun _ => pk_eq V F (fun z => absurd z.symm hn) (fun _ => ⟨pk_in V 9 hV, nm_r (e' := nI F) (by rw [nI_clamp (by omega)]; exact hc) ⟨cn_in9 hF hV, cn_in9 hF hV, nm_r (e' := upd a7 (9 * F + V) (a7 (9 * F + V) - x)) (by rw [cn_cl9 hF hV]) ⟨cn_in9 hV hF, cn_in9 hV hF, nm_r (e' := upd (upd a7 (9 * F + V) (a7 (9 * F + V) - x)) (9 * V + F) (upd a7 (9 * F + V) (a7 (9 * F + V) - x) (9 * V + F) + x)) (by rw [cn_cl9 hV hF]) (nm_r (e' := nI 1) (nI_1 0) (pk_le 9 1 (fun z => absurd z (by omega)) (fun _ => pk_eq F F (fun _ => H _ (cn_two (by omega))) (fun z => absurd rfl z))))⟩⟩⟩)))
/-- one cell of the 81 may hold something -/
def cn_OE (w : Nat → Int32) (V U t : Nat) : Prop := ∀ k, k < 81 → w k = if k = 9 * V + U then nI t else 0
/-- two cells may: there and back -/
def cn_TE (w : Nat → Int32) (V U s n : Nat) : Prop := ∀ k, k < 81 → w k = if k = 9 * V + U then nI s else if k = 9 * U + V then nI n else 0
theorem cn_OT {w : Nat → Int32} {V U t : Nat} (h : cn_OE w V U t) : cn_TE w V U t 0 := by
  intro k hk
  rw [h k hk]
  by_cases e : k = 9 * V + U
  · rw [if_pos e, if_pos e]
  · rw [if_neg e, if_neg e]
    by_cases e2 : k = 9 * U + V
    · rw [if_pos e2]; rfl
    · rw [if_neg e2]
theorem cn_TO {w : Nat → Int32} {V U t : Nat} (h : cn_TE w V U t 0) : cn_OE w V U t := by
  intro k hk
  rw [h k hk]
  by_cases e : k = 9 * V + U
  · rw [if_pos e, if_pos e]
  · rw [if_neg e, if_neg e]
    by_cases e2 : k = 9 * U + V
    · rw [if_pos e2]; rfl
    · rw [if_neg e2]
theorem cn_s28 {post : Int32 → St2 → Prop} {x1 x2 x3 x4 : Int32} {n i : Nat} (hi : i < 100000) (H : post x4 (g, a1, a2, a3, a4, a5, a6, a7, a8, a9, a10, a11, a12)) : wX_send_28 post x1 x2 x3 (n + 1) x4 0 (nI i) g a1 a2 a3 a4 a5 a6 a7 a8 a9 a10 a11 a12 :=
  pk_le 100000 i (fun z => absurd z (by omega)) (fun _ => br_t rfl H)
theorem cn_send_no {post : Int32 → St2 → Prop} {V U t F T n : Nat} (hV : V < 7) (hU : U < 7) (hVU : V ≠ U) (hw : cn_OE a7 V U t) (ht : t ≤ 1000) (hF : F < 7) (hT : T < 7) (hFT : F ≠ T) (hno : ¬ (F = V ∧ T = U ∧ 0 < t)) (hn : n < 2 ^ 31) (H : ∀ c l, post 0 (g, a1, a2, a3, a4, a5, a6, a7, a8, c, l, a11, a12)) : wpX_send post (g, a1, a2, a3, a4, a5, a6, a7, a8, a9, a10, a11, a12) (nI F) (nI T) (nI n) := by
  refine pk_le n 0 (fun _ => ⟨1, cn_s28 (i := 0) (by omega) (H a9 a10)⟩) (fun hn0 => ?_)
  have z0 : ∀ a b, a < 9 → b < 9 → ¬ (a = V ∧ b = U) → a7 (9 * a + b) ≤ 0 := by
    intro a b ha hb h
    rw [hw (9 * a + b) (by omega), if_neg (by omega)]
    decide
  by_cases hc : F = V ∧ 0 < t
  · obtain ⟨e, h0⟩ := hc
    subst e
    refine cn_fw_one (V := U) (by omega) (by omega) (by omega) hVU hFT ?_ (fun b hb hbU => z0 F b (by omega) hb (fun z => hbU z.2)) (fun b hb => z0 U b (by omega) hb (fun z => hVU z.1.symm)) (fun e => absurd ⟨rfl, e, h0⟩ hno) (fun _ c l => br_t rfl ⟨1, cn_s28 (i := 0) (by omega) (H c l)⟩)
    rw [hw (9 * F + U) (by omega), if_pos rfl]
    exact nI_nle h0 (by omega)
  · refine cn_fw_no (by omega) (by omega) hFT (fun b hb => ?_) (fun c l => br_t rfl ⟨1, cn_s28 (i := 0) (by omega) (H c l)⟩)
    by_cases e : F = V ∧ b = U
    · rw [hw (9 * F + b) (by omega), if_pos (by omega), show t = 0 by omega]
      decide
    · exact z0 F b (by omega) hb e
theorem cn_pushTE {w w' : Nat → Int32} {V U t m : Nat} (hV : V < 7) (hU : U < 7) (hVU : V ≠ U) (hw : cn_OE w V U t) (hm : m ≤ t) (h : ∀ k, w' k = if k = 9 * V + U then w k - nI m else if k = 9 * U + V then w k + nI m else w k) : cn_TE w' V U (t - m) m := by
  intro k hk
  rw [h k, hw k hk]
  by_cases e : k = 9 * V + U
  · rw [if_pos e, if_pos e, if_pos e, pk_sub hm]
  · rw [if_neg e, if_neg e, if_neg e]
    by_cases e2 : k = 9 * U + V
    · rw [if_pos e2, if_pos e2, Int32.zero_add]
    · rw [if_neg e2, if_neg e2]
theorem cn_send_yes {post : Int32 → St2 → Prop} {V U t n m : Nat} (hV : V < 7) (hU : U < 7) (hVU : V ≠ U) (hw : cn_OE a7 V U t) (h0 : 0 < t) (ht : t ≤ 1000) (hn0 : 0 < n) (hn : n < 2 ^ 31) (hm : m = min t n) (H : ∀ w c l, cn_TE w V U (t - m) m → post (nI m) (g, a1, a2, a3, a4, a5, a6, w, a8, c, l, a11, a12)) : wpX_send post (g, a1, a2, a3, a4, a5, a6, a7, a8, a9, a10, a11, a12) (nI V) (nI U) (nI n) := by
  refine pk_le n 0 (fun z => absurd z (by omega)) (fun _ => ?_)
  have z0 : ∀ a b, a < 9 → b < 9 → ¬ (a = V ∧ b = U) → a7 (9 * a + b) ≤ 0 := by
    intro a b ha hb h
    rw [hw (9 * a + b) (by omega), if_neg (by omega)]
    decide
  have zt : a7 (9 * V + U) = nI t := by rw [hw (9 * V + U) (by omega), if_pos rfl]
  refine cn_fw_one (V := U) (by omega) (by omega) (by omega) hVU hVU (by rw [zt]; exact nI_nle h0 (by omega)) (fun b hb hbU => z0 V b (by omega) hb (fun z => hbU z.2)) (fun b hb => z0 U b (by omega) hb (fun z => hVU z.1.symm)) (fun _ c l hc => br_f (by decide) ⟨2, ?_⟩) (fun e => absurd rfl e)
  refine pk_le 100000 0 (fun z => absurd z (by omega)) (fun _ => br_f (by decide) (cn_narrow (t := t) (by omega) (by omega) hVU hc zt (by omega) (nm_r (e' := nI n) (Int32.sub_zero _) ?_)))
  refine pk_le n t (fun h => ?_) (fun h => ?_)
  · have em : m = n := by omega
    subst em
    unfold wX_send_68
    exact cn_push (by omega) (by omega) hVU hc (fun w hw' => nm_r (e' := nI m) (Int32.zero_add _) (pk_le m m (fun _ => nm_r (e' := nI 1) (nI_1 0) (cn_s28 (n := 0) (i := 1) (by omega) (H w c l (cn_pushTE hV hU hVU hw h hw')))) (fun z => absurd z (by omega))))
  · have em : m = t := by omega
    subst em
    unfold wX_send_68
    refine cn_push (by omega) (by omega) hVU hc (fun w hw' => nm_r (e' := nI m) (Int32.zero_add _) (pk_le n m (fun z => absurd z (by omega)) (fun _ => ?_)))
    have hTE := cn_pushTE hV hU hVU hw (Nat.le_refl m) hw'
    refine cn_fw_no (by omega) (by omega) hVU (fun b hb => ?_) (fun c' l' => br_t rfl (nm_r (e' := nI 1) (nI_1 0) (cn_s28 (n := 0) (i := 1) (by omega) (H w c' l' hTE))))
    rw [hTE (9 * V + b) (by omega), Nat.sub_self]
    by_cases e : 9 * V + b = 9 * V + U
    · rw [if_pos e]; decide
    · rw [if_neg e, if_neg (by omega)]; decide
theorem cn_send {post : Int32 → St2 → Prop} {V U t F T n m : Nat} (hV : V < 7) (hU : U < 7) (hVU : V ≠ U) (hw : cn_OE a7 V U t) (ht : t ≤ 1000) (hF : F < 7) (hT : T < 7) (hFT : F ≠ T) (hn : n < 2 ^ 31) (hm : m = min (if F = V ∧ T = U then t else 0) n) (H : ∀ w c l, cn_TE w V U (t - m) m → post (nI m) (g, a1, a2, a3, a4, a5, a6, w, a8, c, l, a11, a12)) : wpX_send post (g, a1, a2, a3, a4, a5, a6, a7, a8, a9, a10, a11, a12) (nI F) (nI T) (nI n) := by
  by_cases h : F = V ∧ T = U ∧ 0 < t ∧ 0 < n
  · obtain ⟨e1, e2, h0, hn0⟩ := h
    subst e1 e2
    rw [if_pos ⟨rfl, rfl⟩] at hm
    exact cn_send_yes hV hU hVU hw h0 ht hn0 hn hm H
  · have m0 : m = 0 := by
      by_cases e : F = V ∧ T = U
      · rw [if_pos e] at hm
        omega
      · rw [if_neg e] at hm
        omega
    subst m0
    by_cases hn0 : n = 0
    · subst hn0
      exact pk_le 0 0 (fun _ => ⟨1, cn_s28 (i := 0) (by omega) (H a7 a9 a10 (cn_OT hw))⟩) (fun z => absurd z (by omega))
    · exact cn_send_no hV hU hVU hw ht hF hT hFT (fun z => h ⟨z.1, z.2.1, z.2.2, by omega⟩) hn (fun c l => H a7 c l (cn_OT hw))
theorem cn_most {post : Int32 → St2 → Prop} {V U t F T : Nat} (hV : V < 7) (hU : U < 7) (hVU : V ≠ U) (hw : cn_OE a3 V U t) (ht : t ≤ 1000) (hF : F < 7) (hT : T < 7) (hFT : F ≠ T) (H : ∀ w c l, post (nI (if F = V ∧ T = U then t else 0)) (g, a1, a2, a3, a4, a5, a6, w, a8, c, l, a11, a12)) : wpX_most post (g, a1, a2, a3, a4, a5, a6, a7, a8, a9, a10, a11, a12) (nI F) (nI T) := by
  unfold wpX_most
  refine cn_pair_t hF hT hFT (br_f (by decide) (cn_copy (fun w hw' => ?_)))
  refine cn_send (n := 1000000) hV hU hVU (fun k hk => by rw [hw' k hk]; exact hw k hk) ht hF hT hFT (by omega) ?_ (fun w' c l _ => H w' c l)
  split <;> omega
theorem cn_pay {post : Int32 → St2 → Prop} {V U t F T n : Nat} (hV : V < 7) (hU : U < 7) (hVU : V ≠ U) (hw : cn_OE a3 V U t) (hz : ∀ k, k < 7 → a2 k = 0) (ht : t ≤ 1000) (hF : F < 7) (hT : T < 7) (hFT : F ≠ T) (hn : n < 2 ^ 31)
    (H1 : n ≤ (if F = V ∧ T = U then t else 0) → ∀ p f w c l : Nat → Int32, cn_TE f V U (t - n) n → (∀ k, k < 7 → p k = if k = F then -nI n else if k = T then nI n else 0) → post (-nI n) (g, a1, p, f, a4, a5, a6, w, a8, c, l, a11, a12))
    (H0 : (if F = V ∧ T = U then t else 0) < n → ∀ w c l : Nat → Int32, post (-3) (g, a1, a2, a3, a4, a5, a6, w, a8, c, l, a11, a12)) : wpX_pay post (g, a1, a2, a3, a4, a5, a6, a7, a8, a9, a10, a11, a12) (nI F) (nI T) (nI n) := by
  unfold wpX_pay
  refine cn_pair_t hF hT hFT (br_f (by decide) (br_t (nI_pos' hn) (cn_copy (fun w hw' => ?_))))
  generalize hM : (if F = V ∧ T = U then t else 0) = M at H1 H0
  have hMt : M ≤ 1000 := by
    rw [← hM]
    split <;> omega
  refine cn_send (m := min M n) hV hU hVU (fun k hk => by rw [hw' k hk]; exact hw k hk) ht hF hT hFT hn (by rw [hM]) (fun w' c l hTE => ?_)
  refine pk_le n (min M n) (fun h => cn_keep (fun s hs => ⟨pk_in F 7 hF, pk_in F 7 hF, nm_r (e' := upd a2 F (a2 F - nI n)) (by rw [nI_clamp (by omega)]) ⟨pk_in T 7 hT, pk_in T 7 hT, nm_r (e' := upd (upd a2 F (a2 F - nI n)) T (upd a2 F (a2 F - nI n) T + nI n)) (by rw [nI_clamp (by omega)]) ⟨pk_in F 7 hF, ?_⟩⟩⟩)) (fun h => H0 (by omega) w' c l)
  have em : min M n = n := by omega
  rw [em] at hTE
  have hs' : cn_TE s V U (t - n) n := by
    intro k hk
    rw [hs ?_ k hk]
    · exact hTE k hk
    · intro j hj ho
      rw [hw j hj, hTE j hj, if_neg (by omega), if_neg (by omega), if_neg (by omega)]
  have hp : ∀ k, k < 7 → upd (upd a2 F (a2 F - nI n)) T (upd a2 F (a2 F - nI n) T + nI n) k = if k = F then -nI n else if k = T then nI n else 0 := by
    intro k hk
    rw [cn_two hFT, hz k hk, Int32.zero_sub, Int32.zero_add]
  have e : upd (upd a2 F (a2 F - nI n)) T (upd a2 F (a2 F - nI n) T + nI n) (nI F).toNatClampNeg = -nI n := by
    rw [nI_clamp (by omega), hp F hF, if_pos rfl]
  rw [e]
  exact H1 (by omega) _ s w' c l hs' hp
end
end
section
section
variable {g : Int32} {a1 a2 a3 a4 a5 a6 a7 a8 a9 a10 a11 a12 : Nat → Int32}
/-- what debts lays into work: source to V, V to U, U to sink -/
def cn_dW (V U n t k : Nat) : Int32 := if k = 63 + V then nI n else if k = 9 * U + 8 then nI n else if k = 9 * V + U then nI t else 0
/-- the three cells in their order -/
def cn_ed (V U : Nat) : Nat → Nat
  | 0 => 63 + V
  | 1 => 9 * V + U
  | _ => 9 * U + 8
def cn_c (x y : Nat) : Int32 := if x < 7 ∧ y < 7 then 1 else 0
def cn_dist (V U s k : Nat) : Int32 := if k = 7 then 0 else if k = V then (if 1 ≤ s then 0 else 1000000) else if k = U then (if 2 ≤ s then 1 else 1000000) else if k = 8 then (if 3 ≤ s then 1 else 1000000) else 1000000
/-- s of the three steps of the way are found -/
def cn_St (V U s : Nat) (d c : Nat → Int32) : Prop := (∀ k, k < 9 → d k = cn_dist V U s k) ∧ (1 ≤ s → c V = nI 7) ∧ (2 ≤ s → c U = nI V) ∧ (3 ≤ s → c 8 = nI U)
theorem cn_fcI {post : Int32 → St2 → Prop} (H : ∀ c d : Nat → Int32, (∀ k, k < 9 → d k = if k = 7 then 0 else 1000000) → ∃ n, wX_findCheapest_41 post n 0 g a1 a2 a3 a4 a5 a6 a7 a8 c a10 d a12) : wpX_findCheapest post (g, a1, a2, a3, a4, a5, a6, a7, a8, a9, a10, a11, a12) := by
  refine pk_loop (σ := (Nat → Int32) × (Nat → Int32)) (fun n i s => wX_findCheapest_2 post g n (nI i) a1 a2 a3 a4 a5 a6 a7 a8 s.1 a10 s.2 a12) (fun i s => ∀ k, k < i → s.2 k = if k = 7 then 0 else 1000000) 9 0 (a9, a11) (by omega) (fun j hj => absurd hj (by omega)) ?_ ?_
  · intro n s h
    exact pk_le 9 9 (fun _ => H s.1 s.2 h) (fun z => absurd z (by omega))
  · intro n i s hi h hw
    refine pk_le 9 i (fun z => absurd z (by omega)) (fun _ => pk_eq i 7 (fun e => ?_) (fun e => ?_))
    · exact And.intro (pk_in i 9 hi) (nm_e ⟨pk_in i 9 hi, nm_e (nm_r (nI_1 i) (hw (upd s.1 (nI i).toNatClampNeg (-1), upd s.2 (nI i).toNatClampNeg 0) (cn_fill (f := fun k => if k = 7 then 0 else 1000000) (nI_clamp (by omega)) h (if_pos e).symm)))⟩)
    · exact And.intro (pk_in i 9 hi) (nm_e ⟨pk_in i 9 hi, nm_e (nm_r (nI_1 i) (hw (upd s.1 (nI i).toNatClampNeg (-1), upd s.2 (nI i).toNatClampNeg 1000000) (cn_fill (f := fun k => if k = 7 then 0 else 1000000) (nI_clamp (by omega)) h (if_neg e).symm)))⟩)
theorem cn_cost {post : Int32 → Prop} {x y : Nat} (hx : x < 9) (hy : y < 9) (ho : ∀ k, k < 81 → a8 k = 0) (H : post (cn_c x y)) : wpX_costOf post (g, a1, a2, a3, a4, a5, a6, a7, a8, a9, a10, a11, a12) (nI x) (nI y) := by
  unfold wpX_costOf
  refine pk_le 7 x (fun h => ?_) (fun h => pk_lt y 7 (fun h2 => ⟨cn_in9 hy hx, br_t (by rw [cn_cl9 hy hx, ho _ (by omega)]; decide) ?_⟩) (fun h2 => ?_))
  · unfold cn_c at H
    rw [if_neg (by omega)] at H
    exact H
  · unfold cn_c at H
    rw [if_pos ⟨h, h2⟩] at H
    exact H
  · unfold cn_c at H
    rw [if_neg (by omega)] at H
    exact H
theorem cn_relax {post : St2 → Prop} {x y : Nat} (hx : x < 9) (hy : y < 9) (ho : ∀ k, k < 81 → a8 k = 0)
    (H0 : (a7 (9 * x + y) ≤ 0 ∨ 1000000 ≤ a11 x ∨ a11 y ≤ a11 x + cn_c x y) → post (g, a1, a2, a3, a4, a5, a6, a7, a8, a9, a10, a11, a12))
    (H1 : ¬ a7 (9 * x + y) ≤ 0 → ¬ 1000000 ≤ a11 x → ¬ a11 y ≤ a11 x + cn_c x y → post (g, a1, a2, a3, a4, a5, a6, a7, a8, upd a9 y (nI x), a10, upd a11 y (a11 x + cn_c x y), a12)) : wpX_relax post (g, a1, a2, a3, a4, a5, a6, a7, a8, a9, a10, a11, a12) (nI x) (nI y) := by
  unfold wpX_relax
  dsimp only
  rw [cn_cl9 hx hy, nI_clamp (show x < 2 ^ 31 by omega), nI_clamp (show y < 2 ^ 31 by omega)]
  exact ⟨cn_in9 hx hy, br_c (fun h => H0 (Or.inl h)) (fun h => ⟨pk_in x 9 hx, br_c (fun h2 => H0 (Or.inr (Or.inl h2))) (fun h2 => ⟨pk_in x 9 hx, cn_cost hx hy ho (nm_e ⟨pk_in y 9 hy, br_c (fun h3 => H0 (Or.inr (Or.inr h3))) (fun h3 => ⟨pk_in y 9 hy, nm_e ⟨pk_in y 9 hy, nm_e (H1 h h2 h3)⟩⟩)⟩)⟩)⟩)⟩
theorem cn_dV {V U s : Nat} (hV : V < 7) : cn_dist V U s V = if 1 ≤ s then 0 else 1000000 := by
  unfold cn_dist
  rw [if_neg (by omega), if_pos rfl]
theorem cn_dU {V U s : Nat} (hU : U < 7) (h : V ≠ U) : cn_dist V U s U = if 2 ≤ s then 1 else 1000000 := by
  unfold cn_dist
  rw [if_neg (by omega), if_neg (Ne.symm h), if_pos rfl]
theorem cn_d8 {V U s : Nat} (hV : V < 7) (hU : U < 7) : cn_dist V U s 8 = if 3 ≤ s then 1 else 1000000 := by
  unfold cn_dist
  rw [if_neg (by omega), if_neg (by omega), if_neg (by omega), if_pos rfl]
theorem cn_d7 {V U s : Nat} : cn_dist V U s 7 = 0 := by
  unfold cn_dist
  rw [if_pos rfl]
theorem cn_st0 {V U : Nat} {d c : Nat → Int32} (h : ∀ k, k < 9 → d k = if k = 7 then 0 else 1000000) : cn_St V U 0 d c := by
  refine ⟨fun k hk => ?_, fun z => absurd z (by omega), fun z => absurd z (by omega), fun z => absurd z (by omega)⟩
  rw [h k hk]
  simp [cn_dist]
theorem cn_st1 {V U : Nat} {d c : Nat → Int32} (hV : V < 7) (h : cn_St V U 0 d c) : cn_St V U 1 (upd d V 0) (upd c V (nI 7)) := by
  refine ⟨fun k hk => ?_, fun _ => pk_us, fun z => absurd z (by omega), fun z => absurd z (by omega)⟩
  by_cases e : k = V
  · subst e
    rw [pk_us, cn_dV hV]
    rfl
  · rw [pk_un e, h.1 k hk]
    simp [cn_dist, e]
theorem cn_st2 {V U : Nat} {d c : Nat → Int32} (hV : V < 7) (hU : U < 7) (hVU : V ≠ U) (h : cn_St V U 1 d c) : cn_St V U 2 (upd d U 1) (upd c U (nI V)) := by
  refine ⟨fun k hk => ?_, fun _ => by rw [pk_un hVU]; exact h.2.1 (by omega), fun _ => pk_us, fun z => absurd z (by omega)⟩
  by_cases e : k = U
  · subst e
    rw [pk_us, cn_dU hU hVU]
    rfl
  · rw [pk_un e, h.1 k hk]
    simp [cn_dist, e]
theorem cn_st3 {V U : Nat} {d c : Nat → Int32} (hV : V < 7) (hU : U < 7) (h : cn_St V U 2 d c) : cn_St V U 3 (upd d 8 1) (upd c 8 (nI U)) := by
  refine ⟨fun k hk => ?_, fun _ => by rw [pk_un (by omega)]; exact h.2.1 (by omega), fun _ => by rw [pk_un (by omega)]; exact h.2.2.1 (by omega), fun _ => pk_us⟩
  by_cases e : k = 8
  · subst e
    rw [pk_us, cn_d8 hV hU]
    rfl
  · rw [pk_un e, h.1 k hk]
    simp [cn_dist, e]
theorem cn_dW0 {V U n t : Nat} : cn_dW V U n t (63 + V) = nI n := by
  unfold cn_dW
  rw [if_pos rfl]
theorem cn_dW2 {V U n t : Nat} (hU : U < 7) : cn_dW V U n t (9 * U + 8) = nI n := by
  unfold cn_dW
  rw [if_neg (by omega), if_pos rfl]
theorem cn_dW1 {V U n t : Nat} (hV : V < 7) (hU : U < 7) : cn_dW V U n t (9 * V + U) = nI t := by
  unfold cn_dW
  rw [if_neg (by omega), if_neg (by omega), if_pos rfl]
theorem cn_dWn {V U n t k : Nat} (h0 : k ≠ 63 + V) (h1 : k ≠ 9 * V + U) (h2 : k ≠ 9 * U + 8) : cn_dW V U n t k = 0 := by
  unfold cn_dW
  rw [if_neg h0, if_neg h2, if_neg h1]
theorem cn_relaxS {post : St2 → Prop} {V U n t s x y : Nat} (hV : V < 7) (hU : U < 7) (hVU : V ≠ U) (hn : 0 < n) (hnt : n ≤ t) (ht : t ≤ 1000) (hs : s ≤ 3) (hx : x < 9) (hy : y < 9) (hw : ∀ k, k < 81 → a7 k = cn_dW V U n t k) (ho : ∀ k, k < 81 → a8 k = 0) (hst : cn_St V U s a11 a9)
    (H : ∀ (s' : Nat) (c d : Nat → Int32), s ≤ s' → s' ≤ 3 → (s < 3 → 9 * x + y = cn_ed V U s → s + 1 ≤ s') → cn_St V U s' d c → post (g, a1, a2, a3, a4, a5, a6, a7, a8, c, a10, d, a12)) : wpX_relax post (g, a1, a2, a3, a4, a5, a6, a7, a8, a9, a10, a11, a12) (nI x) (nI y) := by
  have d7 : a11 7 = 0 := by rw [hst.1 7 (by omega), cn_d7]
  have dV : a11 V = if 1 ≤ s then 0 else 1000000 := by rw [hst.1 V (by omega), cn_dV hV]
  have dU : a11 U = if 2 ≤ s then 1 else 1000000 := by rw [hst.1 U (by omega), cn_dU hU hVU]
  have d8 : a11 8 = if 3 ≤ s then 1 else 1000000 := by rw [hst.1 8 (by omega), cn_d8 hV hU]
  have c0 : cn_c 7 V = 0 := by unfold cn_c; rw [if_neg (by omega)]
  have c1 : cn_c V U = 1 := by unfold cn_c; rw [if_pos ⟨hV, hU⟩]
  have c2 : cn_c U 8 = 0 := by unfold cn_c; rw [if_neg (by omega)]
  have z00 : (0 : Int32) + 0 = 0 := by decide
  have z01 : (0 : Int32) + 1 = 1 := by decide
  have z10 : (1 : Int32) + 0 = 1 := by decide
  have pn : ¬ nI n ≤ 0 := nI_nle hn (by omega)
  have pt : ¬ nI t ≤ 0 := nI_nle (by omega) (by omega)
  refine cn_relax hx hy ho (fun h0 => ?_) (fun h1 h2 h3 => ?_)
  · refine H s a9 a11 (Nat.le_refl s) hs (fun hs3 he => ?_) hst
    exfalso
    rcases (show s = 0 ∨ s = 1 ∨ s = 2 by omega) with e | e | e
    · subst e
      have he' : 9 * x + y = 63 + V := he
      have ex : x = 7 := by omega
      have ey : y = V := by omega
      subst ex
      subst ey
      rw [hw _ (by omega), he', cn_dW0, d7, dV, c0] at h0
      rcases h0 with z | z | z
      · exact pn z
      · exact absurd z (by decide)
      · exact absurd z (by decide)
    · subst e
      have he' : 9 * x + y = 9 * V + U := he
      have ex : x = V := by omega
      have ey : y = U := by omega
      subst ex
      subst ey
      rw [hw _ (by omega), cn_dW1 hV hU, dV, dU, c1] at h0
      rcases h0 with z | z | z
      · exact pt z
      · exact absurd z (by decide)
      · exact absurd z (by decide)
    · subst e
      have he' : 9 * x + y = 9 * U + 8 := he
      have ex : x = U := by omega
      have ey : y = 8 := by omega
      subst ex
      subst ey
      rw [hw _ (by omega), cn_dW2 hU, dU, d8, c2] at h0
      rcases h0 with z | z | z
      · exact pn z
      · exact absurd z (by decide)
      · exact absurd z (by decide)
  · by_cases e0 : 9 * x + y = 63 + V
    · have ex : x = 7 := by omega
      have ey : y = V := by omega
      subst ex
      subst ey
      have s0 : s = 0 := by
        rcases Nat.eq_zero_or_pos s with z | z
        · exact z
        · rw [dV, d7, c0, if_pos (show 1 ≤ s from z)] at h3
          exact absurd h3 (by decide)
      subst s0
      rw [d7, c0, z00]
      exact H 1 _ _ (by omega) (by omega) (fun _ _ => by omega) (cn_st1 hV hst)
    · by_cases e1 : 9 * x + y = 9 * V + U
      · have ex : x = V := by omega
        have ey : y = U := by omega
        subst ex
        subst ey
        have s1 : s = 1 := by
          rcases (show s = 0 ∨ s = 1 ∨ 2 ≤ s by omega) with z | z | z
          · rw [dV, if_neg (by omega)] at h2
            exact absurd h2 (by decide)
          · exact z
          · rw [dU, dV, c1, if_pos z, if_pos (by omega)] at h3
            exact absurd h3 (by decide)
        subst s1
        rw [dV, c1, if_pos (Nat.le_refl 1), z01]
        exact H 2 _ _ (by omega) (by omega) (fun _ _ => by omega) (cn_st2 hV hU hVU hst)
      · by_cases e2 : 9 * x + y = 9 * U + 8
        · have ex : x = U := by omega
          have ey : y = 8 := by omega
          subst ex
          subst ey
          have s2 : s = 2 := by
            rcases (show s ≤ 1 ∨ s = 2 ∨ s = 3 by omega) with z | z | z
            · rw [dU, if_neg (by omega)] at h2
              exact absurd h2 (by decide)
            · exact z
            · subst z
              rw [d8, dU, c2] at h3
              exact absurd h3 (by decide)
          subst s2
          rw [dU, c2, if_pos (Nat.le_refl 2), z10]
          exact H 3 _ _ (by omega) (by omega) (fun _ _ => by omega) (cn_st3 hV hU hst)
        · rw [hw _ (by omega), cn_dWn e0 e1 e2] at h1
          exact absurd (by decide) h1
theorem cn_ed_lt {V U s : Nat} (hV : V < 7) (hU : U < 7) : cn_ed V U s < 81 := by
  unfold cn_ed
  split <;> omega
theorem cn_fc49 {post : Int32 → St2 → Prop} {J : Int32 → Int32 → (Nat → Int32) → (Nat → Int32) → (Nat → Int32) → (Nat → Int32) → (Nat → Int32) → (Nat → Int32) → (Nat → Int32) → (Nat → Int32) → (Nat → Int32) → (Nat → Int32) → (Nat → Int32) → (Nat → Int32) → Prop} {V U n t s r : Nat} (hV : V < 7) (hU : U < 7) (hVU : V ≠ U) (hn : 0 < n) (hnt : n ≤ t) (ht : t ≤ 1000) (hs : s ≤ 3) (hw : ∀ k, k < 81 → a7 k = cn_dW V U n t k) (ho : ∀ k, k < 81 → a8 k = 0) (hst : cn_St V U s a11 a9)
    (H : ∀ (s' : Nat) (c d : Nat → Int32), s ≤ s' → s' ≤ 3 → (s < 3 → s + 1 ≤ s') → cn_St V U s' d c → J (nI (r + 1)) g a1 a2 a3 a4 a5 a6 a7 a8 c a10 d a12) : ∃ n, wX_findCheapest_49 post J (nI r) n 0 g a1 a2 a3 a4 a5 a6 a7 a8 a9 a10 a11 a12 := by
  refine pk_loop (σ := (Nat → Int32) × (Nat → Int32)) (fun n i p => wX_findCheapest_49 post J (nI r) n (nI i) g a1 a2 a3 a4 a5 a6 a7 a8 p.1 a10 p.2 a12) (fun i p => ∃ s', s ≤ s' ∧ s' ≤ 3 ∧ (s < 3 → cn_ed V U s < i → s + 1 ≤ s') ∧ cn_St V U s' p.2 p.1) 81 0 (a9, a11) (by omega) ⟨s, Nat.le_refl s, hs, fun _ z => absurd z (by omega), hst⟩ ?_ ?_
  · intro m p h
    obtain ⟨s', h1, h2, h3, h4⟩ := h
    exact pk_le 81 81 (fun _ => nm_r (nI_1 r) (H s' p.1 p.2 h1 h2 (fun z => h3 z (cn_ed_lt hV hU)) h4)) (fun z => absurd z (by omega))
  · intro m i p hi h hw'
    obtain ⟨s', h1, h2, h3, h4⟩ := h
    refine pk_le 81 i (fun z => absurd z (by omega)) (fun _ => ⟨by decide, by decide, ?_⟩)
    rw [show nI i - nI i / 9 * 9 = nI (i % 9) from pk_rem (d := 9) (by omega) (by omega) (by omega), show nI i / 9 = nI (i / 9) from pk_div (d := 9) (by omega) (by omega) (by omega)]
    refine cn_relaxS hV hU hVU hn hnt ht h2 (by omega) (by omega) hw ho h4 (fun s'' c d g1 g2 g3 g4 => nm_r (nI_1 i) (hw' (c, d) ⟨s'', by omega, g2, fun q1 q2 => ?_, g4⟩))
    by_cases e : cn_ed V U s < i
    · have := h3 q1 e
      omega
    · by_cases e2 : s' = s
      · subst e2
        exact g3 q1 (by omega)
      · omega
theorem cn_cheap {post : Int32 → St2 → Prop} {V U n t : Nat} (hV : V < 7) (hU : U < 7) (hVU : V ≠ U) (hn : 0 < n) (hnt : n ≤ t) (ht : t ≤ 1000) (hw : ∀ k, k < 81 → a7 k = cn_dW V U n t k) (ho : ∀ k, k < 81 → a8 k = 0)
    (H : ∀ c d : Nat → Int32, cn_St V U 3 d c → post 1 (g, a1, a2, a3, a4, a5, a6, a7, a8, c, a10, d, a12)) : wpX_findCheapest post (g, a1, a2, a3, a4, a5, a6, a7, a8, a9, a10, a11, a12) := by
  refine cn_fcI (fun c d hd => ?_)
  refine pk_loop (σ := (Nat → Int32) × (Nat → Int32)) (fun n i p => wX_findCheapest_41 post n (nI i) g a1 a2 a3 a4 a5 a6 a7 a8 p.1 a10 p.2 a12) (fun i p => ∃ s, min i 3 ≤ s ∧ s ≤ 3 ∧ cn_St V U s p.2 p.1) 9 0 (c, d) (by omega) ⟨0, by omega, by omega, cn_st0 hd⟩ ?_ ?_
  · intro m p h
    obtain ⟨s, h1, h2, h3⟩ := h
    have e : s = 3 := by omega
    subst e
    have d8 : p.2 8 = 1 := by rw [h3.1 8 (by omega), cn_d8 hV hU]; rfl
    exact pk_le 9 9 (fun _ => br_f (by rw [d8]; decide) (H p.1 p.2 h3)) (fun z => absurd z (by omega))
  · intro m i p hi h hw'
    obtain ⟨s, h1, h2, h3⟩ := h
    exact pk_le 9 i (fun z => absurd z (by omega)) (fun _ => cn_fc49 hV hU hVU hn hnt ht h2 hw ho h3 (fun s' c' d' g1 g2 g3 g4 => hw' (c', d') ⟨s', by omega, g2, g4⟩))
end
end
section
section
variable {g : Int32} {a1 a2 a3 a4 a5 a6 a7 a8 a9 a10 a11 a12 : Nat → Int32}
theorem cn_sendOne {post : St2 → Prop} {x y : Nat} {p : Int32} (hx : x < 9) (hy : y < 9) (H : ∀ w o, post (g, a1, a2, a3, a4, a5, a6, w, o, a9, a10, a11, a12)) : wpX_sendOne post (g, a1, a2, a3, a4, a5, a6, a7, a8, a9, a10, a11, a12) (nI x) (nI y) p :=
  And.intro (cn_in9 hx hy) ⟨cn_in9 hx hy, nm_e ⟨cn_in9 hy hx, cn_in9 hy hx, nm_e ⟨cn_in9 hy hx, br_c (fun _ => ⟨cn_in9 hx hy, cn_in9 hx hy, nm_e (H _ _)⟩) (fun _ => ⟨cn_in9 hy hx, cn_in9 hy hx, nm_e (H _ _)⟩)⟩⟩⟩
theorem cn_no142 {post : Int32 → St2 → Prop} {p : Int32} {n x y i : Nat} (hy : y < 9) (hy7 : y ≠ 7) (hx : x < 9) (hi : i < 9) (hc : a9 y = nI x) (H : ∀ w o, wX_narrowestOwed_142 post p n (nI x) (nI (i + 1)) g a1 a2 a3 a4 a5 a6 w o a9 a10 a11 a12) : wX_narrowestOwed_142 post p (n + 1) (nI y) (nI i) g a1 a2 a3 a4 a5 a6 a7 a8 a9 a10 a11 a12 :=
  pk_le 9 i (fun z => absurd z (by omega)) (fun _ => pk_eq y 7 (fun z => absurd z hy7) (fun _ => ⟨pk_in y 9 hy, nm_r (e' := nI x) (by rw [nI_clamp (by omega)]; exact hc) (cn_sendOne hx hy (fun w o => nm_r (nI_1 i) (H w o)))⟩))
theorem cn_no75 {post : Int32 → St2 → Prop} {J : Int32 → Int32 → Int32 → Prop} {x3 x5 : Int32} {L h i : Nat} (hL : L ≤ h) (hh : h < 2 ^ 31) (H : J (nI L) x5 (nI (i + 1))) : wX_narrowestOwed_75 post J (nI L) x3 (nI i) x5 (nI h) g a1 a2 a3 a4 a5 a6 a7 a8 a9 a10 a11 a12 := by
  unfold wX_narrowestOwed_75 wX_narrowestOwed_76 wX_narrowestOwed_114
  exact br_t rfl (pk_le L h (fun _ => nm_r (nI_1 i) H) (fun z => absurd z (by omega)))
theorem cn_no8 {post : Int32 → St2 → Prop} {n L x y i h : Nat} (hy : y < 9) (hy7 : y ≠ 7) (hx : x < 9) (hi : i < 9) (hc : a9 y = nI x) (hv : a7 (9 * x + y) = nI h) (hL : L ≤ h) (hh : h < 2 ^ 31) (ho : ∀ k, k < 81 → a8 k = 0) (H : wX_narrowestOwed_8 post g a1 a2 a3 a4 a5 a6 a7 a8 a9 a10 a11 a12 n (nI L) (nI x) (nI (i + 1))) : wX_narrowestOwed_8 post g a1 a2 a3 a4 a5 a6 a7 a8 a9 a10 a11 a12 (n + 1) (nI L) (nI y) (nI i) :=
  pk_le 9 i (fun z => absurd z (by omega)) (fun _ => pk_eq y 7 (fun z => absurd z hy7) (fun _ => ⟨pk_in y 9 hy, nm_r (e' := nI x) (by rw [nI_clamp (by omega)]; exact hc) ⟨cn_in9 hx hy, nm_r (e' := nI h) (by rw [cn_cl9 hx hy]; exact hv) (pk_le 7 x (fun _ => cn_no75 hL hh H) (fun _ => pk_le 7 y (fun _ => cn_no75 hL hh H) (fun _ => ⟨cn_in9 hy hx, br_t (by rw [cn_cl9 hy hx, ho _ (by omega)]; decide) (cn_no75 hL hh H)⟩)))⟩⟩))
theorem cn_narrowO {post : Int32 → St2 → Prop} {p : Int32} {V U n t : Nat} (hV : V < 7) (hU : U < 7) (hn : 0 < n) (hnt : n ≤ t) (ht : t ≤ 1000) (hw : ∀ k, k < 81 → a7 k = cn_dW V U n t k) (ho : ∀ k, k < 81 → a8 k = 0) (hst : cn_St V U 3 a11 a9) (hp : p = nI n) (H : ∀ w o, post (nI n) (g, a1, a2, a3, a4, a5, a6, w, o, a9, a10, a11, a12)) : wpX_narrowestOwed post (g, a1, a2, a3, a4, a5, a6, a7, a8, a9, a10, a11, a12) p := by
  subst hp
  have c8 := hst.2.2.2 (by omega)
  have cU := hst.2.2.1 (by omega)
  have cV := hst.2.1 (by omega)
  refine Exists.intro 4 (cn_no8 (y := 8) (i := 0) (h := n) (by omega) (by omega) (by omega) (by omega) c8 (by rw [hw _ (by omega), cn_dW2 hU]) (by omega) (by omega) ho ?_)
  refine cn_no8 (h := t) (by omega) (by omega) (by omega) (by omega) cU (by rw [hw _ (by omega), cn_dW1 hV hU]) hnt (by omega) ho ?_
  refine cn_no8 (x := 7) (h := n) (by omega) (by omega) (by omega) (by omega) cV (by rw [hw _ (by omega)]; exact cn_dW0) (by omega) (by omega) ho ?_
  refine pk_le 9 3 (fun z => absurd z (by omega)) (fun _ => pk_eq 7 7 (fun _ => ⟨4, ?_⟩) (fun z => absurd rfl z))
  refine cn_no142 (y := 8) (i := 0) (by omega) (by omega) (by omega) (by omega) c8 (fun w1 o1 => ?_)
  refine cn_no142 (by omega) (by omega) (by omega) (by omega) cU (fun w2 o2 => ?_)
  refine cn_no142 (x := 7) (by omega) (by omega) (by omega) (by omega) cV (fun w3 o3 => ?_)
  exact pk_le 9 3 (fun z => absurd z (by omega)) (fun _ => pk_eq 7 7 (fun _ => H w3 o3) (fun z => absurd rfl z))
/-- cells that are done hold what they shall, the others nothing -/
def cn_M (D : Nat → Prop) (sp s : Nat → Int32) : Prop := ∀ k, k < 81 → (D k → s k = sp k) ∧ (¬ D k → s k = 0)
theorem cn_Mput {D D' : Nat → Prop} {sp s : Nat → Int32} {m : Nat} {x : Int32} (h : cn_M D sp s) (hx : x = sp m) (hD : ∀ k, k < 81 → (D' k ↔ (D k ∨ k = m))) : cn_M D' sp (upd s m x) := by
  intro k hk
  by_cases e : k = m
  · subst e
    rw [pk_us]
    exact ⟨fun _ => hx, fun z => absurd ((hD k hk).mpr (Or.inr rfl)) z⟩
  · rw [pk_un e]
    refine ⟨fun z => (h k hk).1 ?_, fun z => (h k hk).2 (fun y => z ((hD k hk).mpr (Or.inl y)))⟩
    rcases (hD k hk).mp z with y | y
    · exact y
    · exact absurd y e
theorem cn_Mext {D D' : Nat → Prop} {sp s : Nat → Int32} (h : cn_M D sp s) (h1 : ∀ k, k < 81 → D k → D' k) (h2 : ∀ k, k < 81 → D' k → ¬ D k → sp k = 0) : cn_M D' sp s := by
  intro k hk
  refine ⟨fun z => ?_, fun z => (h k hk).2 (fun y => z (h1 k hk y))⟩
  by_cases e : D k
  · exact (h k hk).1 e
  · rw [(h k hk).2 e, h2 k hk z e]
def cn_D (i k : Nat) : Prop := k < 9 * i ∨ (63 ≤ k ∧ k < 63 + i)
def cn_E (i j k : Nat) : Prop := cn_D i k ∨ k = 63 + i ∨ k = 9 * i + 8 ∨ (9 * i ≤ k ∧ k < 9 * i + j)
theorem cn_db122 {post : Int32 → St2 → Prop} {J : Int32 → Int32 → (Nat → Int32) → (Nat → Int32) → (Nat → Int32) → (Nat → Int32) → (Nat → Int32) → (Nat → Int32) → (Nat → Int32) → (Nat → Int32) → (Nat → Int32) → (Nat → Int32) → (Nat → Int32) → (Nat → Int32) → Prop} {x1 : Int32} {V U n t i : Nat} {s0 : Nat → Int32} (hV : V < 7) (hU : U < 7) (hVU : V ≠ U) (hi : i < 7) (h1 : ∀ k, k < 49 → a1 k = if k = 7 * U + V then nI t else 0) (h0 : cn_M (cn_E i 0) (cn_dW V U n t) s0)
    (H : ∀ s, cn_M (cn_D (i + 1)) (cn_dW V U n t) s → J x1 (nI (i + 1)) a1 a2 a3 a4 a5 a6 s a8 a9 a10 a11 a12) : ∃ m, wX_debts_122 post J x1 (nI i) g m 0 a1 a2 a3 a4 a5 a6 s0 a8 a9 a10 a11 a12 := by
  refine pk_loop (fun m j s => wX_debts_122 post J x1 (nI i) g m (nI j) a1 a2 a3 a4 a5 a6 s a8 a9 a10 a11 a12) (fun j s => cn_M (cn_E i j) (cn_dW V U n t) s) 7 0 s0 (by omega) h0 ?_ ?_
  · intro m s h
    refine pk_le 7 7 (fun _ => nm_r (nI_1 i) (H s (cn_Mext h ?_ ?_))) (fun z => absurd z (by omega))
    · intro k hk hd
      unfold cn_E cn_D at hd
      unfold cn_D
      omega
    · intro k hk hd hd'
      unfold cn_D at hd
      unfold cn_E cn_D at hd'
      exact cn_dWn (by omega) (by omega) (by omega)
  · intro m j s hj h hw
    have hD : ∀ k, k < 81 → (cn_E i (j + 1) k ↔ (cn_E i j k ∨ k = 9 * i + j)) := by
      intro k hk
      unfold cn_E cn_D
      omega
    refine pk_le 7 j (fun z => absurd z (by omega)) (fun _ => pk_eq i j (fun e => ⟨cn_in9 (by omega) (by omega), nm_r (e' := upd s (9 * i + j) 0) (by rw [cn_cl9 (by omega) (by omega)]) (nm_r (nI_1 j) (hw _ (cn_Mput h ?_ hD)))⟩) (fun e => ⟨cn_in7 hj hi, cn_in9 (by omega) (by omega), nm_r (e' := upd s (9 * i + j) (a1 (7 * j + i))) (by rw [cn_cl9 (by omega) (by omega), cn_cl7 hj hi]) (nm_r (nI_1 j) (hw _ (cn_Mput h ?_ hD)))⟩))
    · exact (cn_dWn (by omega) (by omega) (by omega)).symm
    · rw [h1 _ (by omega)]
      by_cases e2 : 7 * j + i = 7 * U + V
      · have ej : j = U := by omega
        have ei : i = V := by omega
        rw [if_pos e2, ej, ei, cn_dW1 hV hU]
      · rw [if_neg e2, cn_dWn (by omega) (by omega) (by omega)]
theorem cn_db97 {post : Int32 → St2 → Prop} {J : Int32 → Int32 → (Nat → Int32) → (Nat → Int32) → (Nat → Int32) → (Nat → Int32) → (Nat → Int32) → (Nat → Int32) → (Nat → Int32) → (Nat → Int32) → (Nat → Int32) → (Nat → Int32) → (Nat → Int32) → (Nat → Int32) → Prop} {x1 x1' z0 : Int32} {V U n t i : Nat} (hV : V < 7) (hU : U < 7) (hVU : V ≠ U) (hi : i < 7) (h1 : ∀ k, k < 49 → a1 k = if k = 7 * U + V then nI t else 0) (h0 : cn_M (fun k => cn_D i k ∨ k = 63 + i) (cn_dW V U n t) a7) (hz : z0 = cn_dW V U n t (9 * i + 8)) (e1 : a2 i ≤ 0 → x1 + 0 = x1') (e2 : ¬ a2 i ≤ 0 → x1 + a2 i = x1')
    (H : ∀ s, cn_M (cn_D (i + 1)) (cn_dW V U n t) s → J x1' (nI (i + 1)) a1 a2 a3 a4 a5 a6 s a8 a9 a10 a11 a12) : wX_debts_97 post J x1 (nI i) z0 (9 * nI i + 8) g a1 a2 a3 a4 a5 a6 a7 a8 a9 a10 a11 a12 := by
  have hM : cn_M (cn_E i 0) (cn_dW V U n t) (upd a7 (9 * i + 8) z0) := cn_Mput h0 hz (fun k hk => by
    show (cn_D i k ∨ k = 63 + i ∨ k = 9 * i + 8 ∨ (9 * i ≤ k ∧ k < 9 * i + 0)) ↔ ((cn_D i k ∨ k = 63 + i) ∨ k = 9 * i + 8)
    unfold cn_D
    omega)
  unfold wX_debts_97
  rw [nI_clamp (show i < 2 ^ 31 by omega)]
  exact ⟨cn_in9 (b := 8) (by omega) (by omega), nm_r (e' := upd a7 (9 * i + 8) z0) (by rw [show ((9 : Int32) * nI i + 8).toNatClampNeg = 9 * i + 8 from cn_cl9 (b := 8) (by omega) (by omega)]) ⟨pk_in i 7 hi, br_c (fun h => nm_r (e1 h) (cn_db122 hV hU hVU hi h1 hM H)) (fun h => ⟨pk_in i 7 hi, nm_r (e2 h) (cn_db122 hV hU hVU hi h1 hM H)⟩)⟩⟩
theorem cn_db66 {post : Int32 → St2 → Prop} {J : Int32 → Int32 → (Nat → Int32) → (Nat → Int32) → (Nat → Int32) → (Nat → Int32) → (Nat → Int32) → (Nat → Int32) → (Nat → Int32) → (Nat → Int32) → (Nat → Int32) → (Nat → Int32) → (Nat → Int32) → (Nat → Int32) → Prop} {x1 x1' z0 : Int32} {V U n t i : Nat} (hV : V < 7) (hU : U < 7) (hVU : V ≠ U) (hi : i < 7) (h1 : ∀ k, k < 49 → a1 k = if k = 7 * U + V then nI t else 0) (h0 : cn_M (cn_D i) (cn_dW V U n t) a7) (hz : z0 = cn_dW V U n t (63 + i)) (z1 : a2 i ≤ 0 → 0 = cn_dW V U n t (9 * i + 8)) (z2 : ¬ a2 i ≤ 0 → a2 i = cn_dW V U n t (9 * i + 8)) (e1 : a2 i ≤ 0 → x1 + 0 = x1') (e2 : ¬ a2 i ≤ 0 → x1 + a2 i = x1')
    (H : ∀ s, cn_M (cn_D (i + 1)) (cn_dW V U n t) s → J x1' (nI (i + 1)) a1 a2 a3 a4 a5 a6 s a8 a9 a10 a11 a12) : wX_debts_66 post J x1 (nI i) z0 (63 + nI i) g a1 a2 a3 a4 a5 a6 a7 a8 a9 a10 a11 a12 := by
  have e63 : (63 : Int32) + nI i = nI (63 + i) := nI_add 63 i
  have hM : cn_M (fun k => cn_D i k ∨ k = 63 + i) (cn_dW V U n t) (upd a7 (63 + i) z0) := cn_Mput h0 hz (fun k hk => Iff.rfl)
  unfold wX_debts_66
  rw [nI_clamp (show i < 2 ^ 31 by omega)]
  exact ⟨pk_in (63 + i) 81 (by omega) e63, nm_r (e' := upd a7 (63 + i) z0) (by rw [e63, nI_clamp (by omega)]) ⟨pk_in i 7 hi, br_c (fun h => cn_db97 hV hU hVU hi h1 hM (z1 h) e1 e2 H) (fun h => ⟨pk_in i 7 hi, cn_db97 hV hU hVU hi h1 hM (z2 h) e1 e2 H⟩)⟩⟩
theorem cn_neg_le {n : Nat} (hn : n < 2 ^ 31) : -nI n ≤ 0 := by
  rw [Int32.le_iff_toInt_le, sb_negT hn]
  show -(n : Int) ≤ 0
  omega
theorem cn_le_neg {n : Nat} (h0 : 0 < n) (hn : n < 2 ^ 31) : ¬ 0 ≤ -nI n := by
  rw [Int32.le_iff_toInt_le, sb_negT hn]
  show ¬ (0 : Int) ≤ -(n : Int)
  omega
theorem cn_debts {post : Int32 → St2 → Prop} {V U n t : Nat} (hV : V < 7) (hU : U < 7) (hVU : V ≠ U) (hnt : n ≤ t) (ht : t ≤ 1000) (h1 : ∀ k, k < 49 → a1 k = if k = 7 * U + V then nI t else 0) (h2 : ∀ k, k < 7 → a2 k = if k = V then -nI n else if k = U then nI n else 0)
    (H : ∀ w o c d : Nat → Int32, post (nI n) (g, a1, a2, a3, a4, a5, a6, w, o, c, a10, d, a12)) : wpX_debts post (g, a1, a2, a3, a4, a5, a6, a7, a8, a9, a10, a11, a12) := by
  refine pk_loop (σ := (Nat → Int32) × (Nat → Int32)) (fun m i s => wX_debts_4 post 0 g m (nI i) a1 a2 a3 a4 a5 a6 s.1 s.2 a9 a10 a11 a12) (fun i s => (∀ j, j < i → s.1 j = 0) ∧ (∀ j, j < i → s.2 j = 0)) 81 0 (a7, a8) (by omega) ⟨fun j hj => absurd hj (by omega), fun j hj => absurd hj (by omega)⟩ ?_ ?_
  rotate_left
  · intro m i s hi h hw
    exact pk_le 81 i (fun z => absurd z (by omega)) (fun _ => ⟨pk_in i 81 hi, nm_e ⟨pk_in i 81 hi, nm_e (nm_r (nI_1 i) (hw (upd s.1 (nI i).toNatClampNeg 0, upd s.2 (nI i).toNatClampNeg 0) ⟨cn_fill (f := fun _ => 0) (nI_clamp (by omega)) h.1 rfl, cn_fill (f := fun _ => 0) (nI_clamp (by omega)) h.2 rfl⟩))⟩⟩)
  · intro m s h
    obtain ⟨w0, o⟩ := s
    obtain ⟨hw0, ho⟩ := h
    refine pk_le 81 81 (fun _ => ?_) (fun z => absurd z (by omega))
    refine pk_loop (σ := Int32 × (Nat → Int32)) (fun m i s => wX_debts_32 post g m s.1 (nI i) a1 a2 a3 a4 a5 a6 s.2 o a9 a10 a11 a12) (fun i s => s.1 = (if U < i then nI n else 0) ∧ cn_M (cn_D i) (cn_dW V U n t) s.2) 7 0 (0, w0) (by omega) ⟨(if_neg (by omega)).symm, fun k hk => ⟨fun z => ?_, fun _ => hw0 k hk⟩⟩ ?_ ?_
    · unfold cn_D at z
      omega
    · intro m s hs
      obtain ⟨due, w⟩ := s
      obtain ⟨hdue, hM⟩ := hs
      have hdue' : due = nI n := by
        have q : due = (if U < 7 then nI n else 0) := hdue
        rw [q, if_pos hU]
      subst hdue'
      have hM' : cn_M (cn_D 7) (cn_dW V U n t) w := hM
      have hw : ∀ k, k < 81 → w k = cn_dW V U n t k := by
        intro k hk
        by_cases e : cn_D 7 k
        · exact (hM' k hk).1 e
        · rw [(hM' k hk).2 e]
          unfold cn_D at e
          exact (cn_dWn (by omega) (by omega) (by omega)).symm
      refine pk_le 7 7 (fun _ => pk_le n 0 (fun h0 => ⟨1, pk_le 100000 0 (fun z => absurd z (by omega)) (fun _ => br_t rfl ?_)⟩) (fun h0 => ?_)) (fun z => absurd z (by omega))
      · have e : n = 0 := by omega
        subst e
        exact H w o a9 a11
      · refine cn_cheap hV hU hVU h0 hnt ht hw ho (fun c d hst => br_f (by decide) ⟨2, pk_le 100000 0 (fun z => absurd z (by omega)) (fun _ => br_f (by decide) (cn_narrowO hV hU h0 hnt ht hw ho hst (Int32.sub_zero _) (fun w' o' => nm_r (e' := nI n) ?_ (nm_r (e' := nI n) (Int32.zero_add _) (pk_le n n (fun _ => nm_r (e' := nI 1) (nI_1 0) (pk_le 100000 1 (fun z => absurd z (by omega)) (fun _ => br_t rfl (H w' o' c d)))) (fun z => absurd z (by omega)))))))⟩)
        have d8 : d 8 = 1 := by rw [hst.1 8 (by omega), cn_d8 hV hU]; rfl
        rw [d8, Int32.one_mul, Int32.zero_add]
    · intro m i s hi hs hw
      obtain ⟨due, w⟩ := s
      obtain ⟨hdue, hM⟩ := hs
      have hdue' : due = (if U < i then nI n else 0) := hdue
      have hM' : cn_M (cn_D i) (cn_dW V U n t) w := hM
      have key : ∀ z0 : Int32, z0 = cn_dW V U n t (63 + i) → wX_debts_66 post (wX_debts_32 post g m) due (nI i) z0 (63 + nI i) g a1 a2 a3 a4 a5 a6 w o a9 a10 a11 a12 := by
        intro z0 hz0
        have hx : ∀ s', cn_M (cn_D (i + 1)) (cn_dW V U n t) s' → wX_debts_32 post g m (if U < i + 1 then nI n else 0) (nI (i + 1)) a1 a2 a3 a4 a5 a6 s' o a9 a10 a11 a12 := fun s' hs' => hw (_, s') ⟨rfl, hs'⟩
        by_cases eU : i = U
        · subst eU
          have e2 : a2 i = nI n := by rw [h2 i hi, if_neg (Ne.symm hVU), if_pos rfl]
          rw [if_neg (by omega)] at hdue'
          rw [if_pos (by omega)] at hx
          subst hdue'
          refine cn_db66 hV hU hVU hi h1 hM' hz0 (fun z => ?_) (fun z => ?_) (fun z => ?_) (fun z => ?_) hx
          · rw [cn_dW2 hU]
            rw [e2] at z
            rcases Nat.eq_zero_or_pos n with q | q
            · rw [q]; rfl
            · exact absurd z (nI_nle q (by omega))
          · rw [cn_dW2 hU, e2]
          · rw [e2] at z
            rcases Nat.eq_zero_or_pos n with q | q
            · rw [q]; rfl
            · exact absurd z (nI_nle q (by omega))
          · rw [e2, Int32.zero_add]
        · have e2 : a2 i ≤ 0 := by
            rw [h2 i hi, if_neg eU]
            by_cases eV : i = V
            · rw [if_pos eV]
              exact cn_neg_le (by omega)
            · rw [if_neg eV]
              decide
          have ed : due = (if U < i + 1 then nI n else 0) := by
            rw [hdue']
            by_cases q : U < i
            · rw [if_pos q, if_pos (by omega)]
            · rw [if_neg q, if_neg (by omega)]
          rw [← ed] at hx
          refine cn_db66 hV hU hVU hi h1 hM' hz0 (fun _ => ?_) (fun z => absurd e2 z) (fun _ => Int32.add_zero _) (fun z => absurd e2 z) hx
          exact (cn_dWn (by omega) (by omega) (by omega)).symm
      refine pk_le 7 i (fun z => absurd z (by omega)) (fun _ => ⟨pk_in i 7 hi, ?_⟩)
      rw [nI_clamp (show i < 2 ^ 31 by omega)]
      by_cases eV : i = V
      · have e2 : a2 i = -nI n := by rw [h2 i hi, if_pos eV]
        have es : cn_dW V U n t (63 + i) = nI n := by rw [eV, cn_dW0]
        refine br_c (fun z => key 0 ?_) (fun z => ⟨pk_in i 7 hi, key _ ?_⟩)
        · rw [es]
          rw [e2] at z
          rcases Nat.eq_zero_or_pos n with q | q
          · rw [q]; rfl
          · exact absurd z (cn_le_neg q (by omega))
        · rw [es, e2, Int32.neg_neg]
      · have e2 : 0 ≤ a2 i := by
          rw [h2 i hi, if_neg eV]
          by_cases eU : i = U
          · rw [if_pos eU]
            exact nI_pos' (by omega)
          · rw [if_neg eU]
            decide
        exact br_t e2 (key 0 (cn_dWn (by omega) (by omega) (by omega)).symm)
end
end
section
section
variable {g : Int32} {a1 a2 a3 a4 a5 a6 a7 a8 a9 a10 a11 a12 : Nat → Int32}
theorem cn_wd_np {post : Int32 → St2 → Prop} {x y p : Int32} (hn : ¬ cn_isP x y) (H : ∀ u, post (-1) u) : wpX_withdraw post (g, a1, a2, a3, a4, a5, a6, a7, a8, a9, a10, a11, a12) x y p := by
  unfold wpX_withdraw
  exact cn_pair_f hn (br_t rfl (H _))
theorem cn_wd_bad {post : Int32 → St2 → Prop} {V U : Nat} {p : Int32} (hV : V < 7) (hU : U < 7) (hVU : V ≠ U) (hb : p < 0 ∨ ¬ p ≤ a1 (7 * U + V)) (H : ∀ u, post (-2) u) : wpX_withdraw post (g, a1, a2, a3, a4, a5, a6, a7, a8, a9, a10, a11, a12) (nI U) (nI V) p := by
  unfold wpX_withdraw
  refine cn_pair_t hU hV (Ne.symm hVU) (br_f (by decide) (nm_r (e' := nI (7 * U + V)) (cn_ix7 U V) (br_c (fun _ => H _) (fun h => ⟨pk_in (7 * U + V) 49 (by omega), br_f ?_ (H _)⟩))))
  rw [nI_clamp (by omega)]
  rcases hb with z | z
  · exact absurd z h
  · exact z
theorem cn_wd_ok {post : Int32 → St2 → Prop} {V U n t : Nat} (hV : V < 7) (hU : U < 7) (hVU : V ≠ U) (hnt : n ≤ t) (ht : t ≤ 1000) (h1 : a1 (7 * U + V) = nI t) (h3 : cn_TE a3 V U (t - n) n) (H : ∀ u, post (if n = 0 then 0 else -3) u) : wpX_withdraw post (g, a1, a2, a3, a4, a5, a6, a7, a8, a9, a10, a11, a12) (nI U) (nI V) (nI t) := by
  unfold wpX_withdraw
  refine cn_pair_t hU hV (Ne.symm hVU) (br_f (by decide) (nm_r (e' := nI (7 * U + V)) (cn_ix7 U V) (br_f (nI_pos (by omega)) ⟨pk_in (7 * U + V) 49 (by omega), br_t (by rw [nI_clamp (by omega), h1]; exact Int32.le_refl _) (cn_copy (fun w hw => ⟨cn_in9 (by omega) (by omega), nm_r (e' := nI (t - n) - nI t) (by rw [cn_cl9 (by omega) (by omega), h3 _ (by omega), if_pos rfl]) ?_⟩))⟩)))
  rcases Nat.eq_zero_or_pos n with e | e
  · subst e
    have H' : ∀ u, post 0 u := fun u => by
      have q := H u
      rw [if_pos rfl] at q
      exact q
    refine br_f ?_ ⟨cn_in9 (by omega) (by omega), nm_e ?_⟩
    · rw [Nat.sub_zero, Int32.sub_self]
      decide
    · unfold wX_withdraw_129
      refine cn_keep (fun s _ => ⟨pk_in (7 * U + V) 49 (by omega), pk_in (7 * U + V) 49 (by omega), nm_r (e' := upd a1 (7 * U + V) 0) (by rw [nI_clamp (by omega), h1, Int32.sub_self]) ⟨pk_in (7 * U + V) 49 (by omega), ?_⟩⟩)
      rw [nI_clamp (by omega), pk_us]
      exact H' _
  · refine br_t (pk_sneg (by omega) (by omega)) (nm_r (e' := nI n) (by rw [Int32.neg_sub, pk_sub (by omega), show t - (t - n) = n by omega]) ⟨cn_in9 (by omega) (by omega), nm_r (e' := upd w (9 * V + U) 0) (by rw [cn_cl9 (by omega) (by omega)]) ⟨cn_in9 (by omega) (by omega), cn_in9 (by omega) (by omega), nm_r (e' := upd (upd w (9 * V + U) 0) (9 * U + V) 0) ?_ ?_⟩⟩)
    · rw [cn_cl9 (by omega) (by omega), pk_un (by omega), hw _ (by omega), h3 _ (by omega), if_neg (by omega), if_pos rfl, Int32.sub_self]
    · refine cn_send_no (t := 0) hV hU hVU (fun k hk => ?_) (by omega) hV hU hVU (by omega) (by omega) (fun c l => pk_le n 0 (fun z => absurd z (by omega)) (fun _ => ?_))
      · by_cases q1 : k = 9 * U + V
        · rw [q1, pk_us, if_neg (by omega)]
        · rw [pk_un q1]
          by_cases q2 : k = 9 * V + U
          · rw [q2, pk_us, if_pos rfl]
            rfl
          · rw [pk_un q2, if_neg q2, hw k hk, h3 k hk, if_neg q2, if_neg q1]
      · have q := H (g, a1, a2, a3, a4, a5, a6, upd (upd w (9 * V + U) 0) (9 * U + V) 0, a8, c, l, a11, a12)
        rw [if_neg (by omega)] at q
        exact q
/-- what withdraw answers after n was paid: 'ans n' -/
def cn_HW (x0 x1 x2 : Int32) (V U t : Nat) (ans : Nat → Int32) : Prop := ∀ (n : Nat) (g : Int32) (a1 a2 a3 a4 a5 a6 a7 a8 a9 a10 a11 a12 : Nat → Int32) (post : Int32 → St2 → Prop), n ≤ t → (∀ k, k < 49 → a1 k = if k = 7 * U + V then nI t else 0) → cn_TE a3 V U (t - n) n → (∀ u, post (ans n) u) → wpX_withdraw post (g, a1, a2, a3, a4, a5, a6, a7, a8, a9, a10, a11, a12) x0 x1 x2
def cn_an (x7 x8 : Int32) (ans : Nat → Int32) : Prop := ∀ n, (x7 = 0 ∧ ans n = -1) ∨ (¬ x7 = 0 ∧ x8 = 0 ∧ ans n = -2) ∨ (¬ x7 = 0 ∧ ¬ x8 = 0 ∧ ans n = if n = 0 then 0 else -3)
/-- the state behind trust: one trust of t -/
def cn_K (x0 x1 : Int32) (V U t : Nat) (a1 a2 a3 : Nat → Int32) : Prop := V < 7 ∧ U < 7 ∧ V ≠ U ∧ t ≤ 1000 ∧ (0 < t → x0 = nI U ∧ x1 = nI V) ∧ (∀ k, k < 49 → a1 k = if k = 7 * U + V then nI t else 0) ∧ (∀ k, k < 7 → a2 k = 0) ∧ cn_OE a3 V U t
theorem cn_306 {post : Int32 → St0 → Prop} {mc ms kc ks : Nat} {x0 x1 x2 x7 x8 z0 : Int32} {ans : Nat → Int32} {V U n t : Nat} (hp : post 1 ()) (HA : cn_an x7 x8 ans) (HW : cn_HW x0 x1 x2 V U t ans) (hV : V < 7) (hU : U < 7) (hVU : V ≠ U) (hnt : n ≤ t) (ht : t ≤ 1000) (h1 : ∀ k, k < 49 → a1 k = if k = 7 * U + V then nI t else 0) (h2 : ∀ k, k < 7 → a2 k = if k = V then -nI n else if k = U then nI n else 0) (h3 : cn_TE a3 V U (t - n) n) (hz : z0 = nI n) : wL_lawOf_306 post mc ms x0 x1 x2 x7 x8 z0 kc ks g a1 a2 a3 a4 a5 a6 a7 a8 a9 a10 a11 a12 := by
  subst hz
  unfold wL_lawOf_306
  refine cn_debts hV hU hVU hnt ht h1 h2 (fun w o c d => br_t rfl (HW n _ _ _ _ _ _ _ _ _ _ _ _ _ _ hnt h1 h3 (fun u => ?_)))
  obtain ⟨u0, u1, u2, u3, u4, u5, u6, u7, u8, u9, u10, u11, u12⟩ := u
  rcases HA n with ⟨q1, q2⟩ | ⟨q1, q2, q3⟩ | ⟨q1, q2, q3⟩
  · exact br_t q1 (br_t q2 hp)
  · exact br_f q1 (br_t q2 (br_t q3 hp))
  · refine br_f q1 (br_f q2 (pk_le n 0 (fun h => br_t ?_ hp) (fun h => br_t ?_ hp)))
    · rw [q3, if_pos (by omega)]
    · rw [q3, if_neg (by omega)]
theorem cn_z2 {V U : Nat} (h : ∀ k, k < 7 → a2 k = 0) : ∀ k, k < 7 → a2 k = if k = V then -nI 0 else if k = U then nI 0 else 0 := by
  intro k hk
  rw [h k hk]
  by_cases e : k = V
  · rw [if_pos e]; rfl
  · rw [if_neg e]
    by_cases e2 : k = U
    · rw [if_pos e2]; rfl
    · rw [if_neg e2]
theorem cn_306z {post : Int32 → St0 → Prop} {mc ms kc ks : Nat} {x0 x1 x2 x7 x8 : Int32} {ans : Nat → Int32} {V U t : Nat} (hp : post 1 ()) (HA : cn_an x7 x8 ans) (HW : cn_HW x0 x1 x2 V U t ans) (K : cn_K x0 x1 V U t a1 a2 a3) : wL_lawOf_306 post mc ms x0 x1 x2 x7 x8 0 kc ks g a1 a2 a3 a4 a5 a6 a7 a8 a9 a10 a11 a12 := by
  obtain ⟨hV, hU, hVU, ht, _, h1, h2, h3⟩ := K
  exact cn_306 (n := 0) hp HA HW hV hU hVU (by omega) ht h1 (cn_z2 h2) (cn_OT h3) rfl
theorem cn_246n {post : Int32 → St0 → Prop} {mc ms kc ks : Nat} {x0 x1 x2 x3 x4 x5 x7 x8 : Int32} {ans : Nat → Int32} {V U t : Nat} (hp : post 1 ()) (HA : cn_an x7 x8 ans) (HW : cn_HW x0 x1 x2 V U t ans) (K : cn_K x0 x1 V U t a1 a2 a3) (hn : ¬ cn_isP x3 x4) : wL_lawOf_246 post mc ms x0 x1 x2 x3 x4 x5 x7 x8 0 0 kc ks g a1 a2 a3 a4 a5 a6 a7 a8 a9 a10 a11 a12 := by
  unfold wL_lawOf_246 wpX_pay
  exact cn_pair_f hn (br_t rfl (br_t rfl (br_t rfl (br_t rfl (cn_306z hp HA HW K)))))
theorem cn_161n {post : Int32 → St0 → Prop} {mc ms kc ks : Nat} {x0 x1 x2 x3 x4 x5 x7 x8 x9 z0 : Int32} {ans : Nat → Int32} {V U t : Nat} (hp : post 1 ()) (HA : cn_an x7 x8 ans) (HW : cn_HW x0 x1 x2 V U t ans) (K : cn_K x0 x1 V U t a1 a2 a3) (hn : ¬ cn_isP x3 x4) : wL_lawOf_161 post mc ms x0 x1 x2 x3 x4 x5 x7 x8 x9 0 z0 kc ks g a1 a2 a3 a4 a5 a6 a7 a8 a9 a10 a11 a12 := by
  unfold wL_lawOf_161 wpX_trusted
  refine cn_pair_f hn (br_t rfl (br_t rfl ?_))
  unfold wL_lawOf_197
  refine br_t rfl ?_
  unfold wpX_most
  exact cn_pair_f hn (br_t rfl (br_t rfl (br_t rfl (br_t rfl (cn_246n hp HA HW K hn)))))
theorem cn_246p {post : Int32 → St0 → Prop} {mc ms kc ks : Nat} {x0 x1 x2 x5 x7 x8 : Int32} {ans : Nat → Int32} {V U t F T M : Nat} (hp : post 1 ()) (HA : cn_an x7 x8 ans) (HW : cn_HW x0 x1 x2 V U t ans) (K : cn_K x0 x1 V U t a1 a2 a3) (hF : F < 7) (hT : T < 7) (hFT : F ≠ T) (hM : M = if F = V ∧ T = U then t else 0) : wL_lawOf_219 post mc ms x0 x1 x2 (nI F) (nI T) x5 x7 x8 1 (nI M) (nI M) (nI M) kc ks g a1 a2 a3 a4 a5 a6 a7 a8 a9 a10 a11 a12 := by
  have K' := K
  obtain ⟨hV, hU, hVU, ht, _, h1, h2, h3⟩ := K'
  have hM1 : M ≤ 1000 := by
    rw [hM]
    split <;> omega
  unfold wL_lawOf_219
  refine br_t rfl (br_f (by decide) (br_c (fun hneg => ?_) (fun hpos => ?_)))
  · unfold wL_lawOf_245 wL_lawOf_246 wpX_pay
    refine cn_pair_t hF hT hFT (br_f (by decide) (br_f ?_ (br_f (by decide) (br_f ?_ (br_t rfl (br_t rfl (cn_306z hp HA HW K)))))))
    · exact fun z => absurd hneg (Int32.not_lt.mpr z)
    · exact fun z => absurd hneg (Int32.not_lt.mpr z)
  · obtain ⟨n, hn, e⟩ := nI_of hpos
    subst e
    refine pk_lt M n (fun h => ?_) (fun h => ?_)
    · unfold wL_lawOf_245 wL_lawOf_246
      refine cn_pay hV hU hVU h3 h2 ht hF hT hFT hn (fun z => absurd z (by rw [← hM]; omega)) (fun _ w c l => br_f (by decide) (br_t (nI_pos' hn) (br_t rfl (br_t rfl (br_t rfl (cn_306z hp HA HW K))))))
    · unfold wL_lawOf_246
      refine cn_pay hV hU hVU h3 h2 ht hF hT hFT hn (fun _ p f w c l hf hq => br_f (by decide) (br_t (nI_pos' hn) (br_f (by decide) (br_t rfl (br_f (by decide) (cn_306 (n := n) hp HA HW hV hU hVU ?_ ht h1 ?_ hf rfl)))))) (fun z => absurd z (by rw [← hM]; omega))
      · by_cases q : F = V ∧ T = U
        · rw [if_pos q] at hM
          omega
        · rw [if_neg q] at hM
          omega
      · intro k hk
        rw [hq k hk]
        by_cases q : F = V ∧ T = U
        · rw [q.1, q.2]
        · rw [if_neg q] at hM
          have n0 : n = 0 := by omega
          subst n0
          have z0 : (-0 : Int32) = 0 := by decide
          have z1 : nI 0 = 0 := rfl
          simp only [z0, z1, ite_self]
theorem cn_197p {post : Int32 → St0 → Prop} {mc ms kc ks : Nat} {x0 x1 x2 x5 x7 x8 z0 z1 : Int32} {ans : Nat → Int32} {V U t F T M : Nat} (hp : post 1 ()) (HA : cn_an x7 x8 ans) (HW : cn_HW x0 x1 x2 V U t ans) (K : cn_K x0 x1 V U t a1 a2 a3) (hF : F < 7) (hT : T < 7) (hFT : F ≠ T) (hM : M = if F = V ∧ T = U then t else 0) (hz : z1 = z0) : wL_lawOf_197 post mc ms x0 x1 x2 (nI F) (nI T) x5 x7 x8 1 (nI M) z0 z1 kc ks g a1 a2 a3 a4 a5 a6 a7 a8 a9 a10 a11 a12 := by
  have K' := K
  obtain ⟨hV, hU, hVU, ht, _, h1, h2, h3⟩ := K'
  unfold wL_lawOf_197
  refine br_t hz (cn_most hV hU hVU h3 ht hF hT hFT (fun w c l => br_f (by decide) ?_))
  rw [← hM]
  exact cn_246p hp HA HW K hF hT hFT hM
theorem cn_161p {post : Int32 → St0 → Prop} {mc ms kc ks : Nat} {x0 x1 x2 x5 x7 x8 z0 : Int32} {ans : Nat → Int32} {V U t F T M : Nat} (hp : post 1 ()) (HA : cn_an x7 x8 ans) (HW : cn_HW x0 x1 x2 V U t ans) (K : cn_K x0 x1 V U t a1 a2 a3) (hF : F < 7) (hT : T < 7) (hFT : F ≠ T) (hM : M = if F = V ∧ T = U then t else 0) (hz : z0 = nI M) : wL_lawOf_161 post mc ms x0 x1 x2 (nI F) (nI T) x5 x7 x8 (nI t) 1 z0 kc ks g a1 a2 a3 a4 a5 a6 a7 a8 a9 a10 a11 a12 := by
  subst hz
  have K' := K
  obtain ⟨hV, hU, hVU, ht, hx, h1, h2, h3⟩ := K'
  unfold wL_lawOf_161 wpX_trusted
  refine cn_pair_t hF hT hFT (br_f (by decide) ⟨cn_in7 hF hT, ?_⟩)
  rw [cn_cl7 hF hT]
  have v1 : F = U → T = V → a1 (7 * F + T) = nI t := by
    intro e1 e2
    rw [e1, e2, h1 _ (by omega), if_pos rfl]
  have v0 : t = 0 ∨ ¬ (F = U ∧ T = V) → a1 (7 * F + T) = 0 := by
    intro q
    rw [h1 _ (by omega)]
    by_cases e : 7 * F + T = 7 * U + V
    · rcases q with q | q
      · rw [if_pos e, q]; rfl
      · exact absurd ⟨by omega, by omega⟩ q
    · rw [if_neg e]
  refine br_f (by decide) (br_c (fun e3 => br_c (fun e4 => cn_197p hp HA HW K hF hT hFT hM ?_) (fun e4 => cn_197p hp HA HW K hF hT hFT hM (v0 ?_))) (fun e3 => cn_197p hp HA HW K hF hT hFT hM (v0 ?_)))
  · rcases Nat.eq_zero_or_pos t with q | q
    · rw [v0 (Or.inl q), q]; rfl
    · obtain ⟨p0, p1⟩ := hx q
      rw [p0] at e3
      rw [p1] at e4
      exact v1 ((nI_eq (by omega) (by omega)).mp e3) ((nI_eq (by omega) (by omega)).mp e4)
  · rcases Nat.eq_zero_or_pos t with q | q
    · exact Or.inl q
    · obtain ⟨p0, p1⟩ := hx q
      exact Or.inr (fun y => e4 (by rw [p1, y.2]))
  · rcases Nat.eq_zero_or_pos t with q | q
    · exact Or.inl q
    · obtain ⟨p0, p1⟩ := hx q
      exact Or.inr (fun y => e3 (by rw [p0, y.1]))
theorem cn_107 {post : Int32 → St0 → Prop} {mc ms kc ks : Nat} {x0 x1 x2 x3 x4 x5 x7 x8 z0 : Int32} {ans : Nat → Int32} {V U t : Nat} (hp : post 1 ()) (HA : cn_an x7 x8 ans) (HW : cn_HW x0 x1 x2 V U t ans) (K : cn_K x0 x1 V U t a1 a2 a3) (hz : z0 = nI t) : wL_lawOf_107 post mc ms x0 x1 x2 x3 x4 x5 x7 x8 z0 kc ks g a1 a2 a3 a4 a5 a6 a7 a8 a9 a10 a11 a12 := by
  subst hz
  by_cases hP : cn_isP x3 x4
  · obtain ⟨F, T, hF, hT, hFT, e3, e4⟩ := hP
    subst e3 e4
    have hx := K.2.2.2.2.1
    have hV := K.1
    have hU := K.2.1
    unfold wL_lawOf_107
    refine br_f (nI_pos (by omega)) (br_f (nI_nlt (a := 6) (by omega) (by omega)) (br_f (nI_pos (by omega)) (br_f (nI_nlt (a := 6) (by omega) (by omega)) (pk_eq F T (fun z => absurd z hFT) (fun _ => ?_)))))
    unfold wL_lawOf_142
    have w0 : t = 0 ∨ ¬ (F = V ∧ T = U) → (0 : Int32) = nI (if F = V ∧ T = U then t else 0) := by
      intro q
      by_cases e : F = V ∧ T = U
      · rcases q with q | q
        · rw [if_pos e, q]; rfl
        · exact absurd e q
      · rw [if_neg e]; rfl
    refine br_c (fun e3 => br_c (fun e4 => cn_161p hp HA HW K hF hT hFT rfl ?_) (fun e4 => cn_161p hp HA HW K hF hT hFT rfl (w0 ?_))) (fun e3 => cn_161p hp HA HW K hF hT hFT rfl (w0 ?_))
    · rcases Nat.eq_zero_or_pos t with q | q
      · rw [← w0 (Or.inl q), q]; rfl
      · obtain ⟨p0, p1⟩ := hx q
        rw [p1] at e3
        rw [p0] at e4
        rw [if_pos ⟨(nI_eq (by omega) (by omega)).mp e3, (nI_eq (by omega) (by omega)).mp e4⟩]
    · rcases Nat.eq_zero_or_pos t with q | q
      · exact Or.inl q
      · obtain ⟨p0, p1⟩ := hx q
        exact Or.inr (fun y => e4 (by rw [p0, y.2]))
    · rcases Nat.eq_zero_or_pos t with q | q
      · exact Or.inl q
      · obtain ⟨p0, p1⟩ := hx q
        exact Or.inr (fun y => e3 (by rw [p1, y.1]))
  · have h142 : wL_lawOf_141 post mc ms x0 x1 x2 x3 x4 x5 x7 x8 (nI t) kc ks g a1 a2 a3 a4 a5 a6 a7 a8 a9 a10 a11 a12 := by
      unfold wL_lawOf_141 wL_lawOf_142
      exact br_c (fun _ => br_c (fun _ => cn_161n hp HA HW K hP) (fun _ => cn_161n hp HA HW K hP)) (fun _ => cn_161n hp HA HW K hP)
    unfold wL_lawOf_107
    refine br_c (fun _ => h142) (fun q1 => br_c (fun _ => h142) (fun q2 => br_c (fun _ => h142) (fun q3 => br_c (fun _ => h142) (fun q4 => br_c (fun _ => h142) (fun q5 => ?_)))))
    obtain ⟨a, ha, ea⟩ := cn_mem q1 q2
    obtain ⟨b, hb, eb⟩ := cn_mem q3 q4
    exact absurd ⟨a, b, ha, hb, fun z => q5 (by rw [ea, eb, z]), ea, eb⟩ hP
end
section
variable {post : Int32 → St0 → Prop} {mc ms kc ks : Nat} {x0 x1 x2 x3 x4 x5 z0 : Int32}
theorem cn_if0 (a b : Nat) : (0 : Int32) = if a = b then nI 0 else 0 := by
  split <;> rfl
theorem cn_K0 {x0 x1 : Int32} : cn_K x0 x1 0 1 0 (fun _ => 0) (fun _ => 0) (fun _ => 0) :=
  ⟨by omega, by omega, by omega, by omega, fun z => absurd z (by omega), fun k _ => cn_if0 _ _, fun _ _ => rfl, fun k _ => cn_if0 _ _⟩
theorem cn_57n (hp : post 1 ()) (hn : ¬ cn_isP x0 x1) : wL_lawOf_57 post mc ms x0 x1 x2 x3 x4 x5 0 z0 kc ks 0 (fun _ => 0) (fun _ => 0) (fun _ => 0) (fun _ => 0) (fun _ => 0) (fun _ => 0) (fun _ => 0) (fun _ => 0) (fun _ => 0) (fun _ => 0) (fun _ => 0) (fun _ => 0) := by
  unfold wL_lawOf_57 wpX_trust
  refine cn_pair_f hn (br_t rfl (br_t rfl ?_))
  unfold wL_lawOf_87
  refine br_t rfl (br_t rfl ?_)
  unfold wL_lawOf_106
  exact cn_107 (ans := fun _ => -1) hp (fun n => Or.inl ⟨rfl, rfl⟩) (fun n g a1 a2 a3 a4 a5 a6 a7 a8 a9 a10 a11 a12 post _ _ _ H => cn_wd_np hn H) cn_K0 rfl
theorem cn_57b {V U : Nat} (hp : post 1 ()) (hV : V < 7) (hU : U < 7) (hVU : V ≠ U) (hb : x2 < 0 ∨ 1000 < x2) : wL_lawOf_57 post mc ms (nI U) (nI V) x2 x3 x4 x5 1 0 kc ks 0 (fun _ => 0) (fun _ => 0) (fun _ => 0) (fun _ => 0) (fun _ => 0) (fun _ => 0) (fun _ => 0) (fun _ => 0) (fun _ => 0) (fun _ => 0) (fun _ => 0) (fun _ => 0) := by
  have k : wL_lawOf_107 post mc ms (nI U) (nI V) x2 x3 x4 x5 1 0 0 kc ks 0 (fun _ => 0) (fun _ => 0) (fun _ => 0) (fun _ => 0) (fun _ => 0) (fun _ => 0) (fun _ => 0) (fun _ => 0) (fun _ => 0) (fun _ => 0) (fun _ => 0) (fun _ => 0) := by
    refine cn_107 (V := V) (U := U) (t := 0) (ans := fun _ => -2) hp (fun n => Or.inr (Or.inl ⟨by decide, rfl, rfl⟩)) (fun n g a1 a2 a3 a4 a5 a6 a7 a8 a9 a10 a11 a12 post _ h1 _ H => cn_wd_bad hV hU hVU ?_ H) ⟨hV, hU, hVU, by omega, fun z => absurd z (by omega), fun k _ => cn_if0 _ _, fun _ _ => rfl, fun k _ => cn_if0 _ _⟩ rfl
    rcases hb with z | z
    · exact Or.inl z
    · refine Or.inr ?_
      rw [h1 _ (by omega), if_pos rfl]
      exact fun y => absurd (Int32.lt_of_lt_of_le z y) (by decide)
  unfold wL_lawOf_57 wpX_trust
  refine cn_pair_t hU hV (Ne.symm hVU) (br_f (by decide) (nm_r (e' := nI (7 * U + V)) (cn_ix7 U V) (br_c (fun h => ?_) (fun h => ⟨pk_in (7 * U + V) 49 (by omega), br_f ?_ ?_⟩))))
  · exact br_f (by decide) (br_t rfl (br_t rfl (br_f (by decide) (br_t rfl k))))
  · rcases hb with z | z
    · exact absurd z h
    · show ¬ x2 ≤ 1000 - 0
      rw [Int32.sub_zero]
      exact Int32.not_le.mpr z
  · exact br_f (by decide) (br_t rfl (br_t rfl (br_f (by decide) (br_t rfl k))))
theorem cn_57g {V U t : Nat} (hp : post 1 ()) (hV : V < 7) (hU : U < 7) (hVU : V ≠ U) (ht : t ≤ 1000) : wL_lawOf_57 post mc ms (nI U) (nI V) (nI t) x3 x4 x5 1 1 kc ks 0 (fun _ => 0) (fun _ => 0) (fun _ => 0) (fun _ => 0) (fun _ => 0) (fun _ => 0) (fun _ => 0) (fun _ => 0) (fun _ => 0) (fun _ => 0) (fun _ => 0) (fun _ => 0) := by
  unfold wL_lawOf_57 wpX_trust
  refine cn_pair_t hU hV (Ne.symm hVU) (br_f (by decide) (nm_r (e' := nI (7 * U + V)) (cn_ix7 U V) (br_f (nI_pos (by omega)) ⟨pk_in (7 * U + V) 49 (by omega), br_t (by show nI t ≤ 1000 - 0; rw [Int32.sub_zero]; exact nI_le (b := 1000) ht (by omega)) ⟨pk_in (7 * U + V) 49 (by omega), pk_in (7 * U + V) 49 (by omega), nm_r (e' := upd (fun _ => 0) (7 * U + V) (nI t)) (by show upd (fun _ => 0) (nI (7 * U + V)).toNatClampNeg (0 + nI t) = _; rw [nI_clamp (by omega), Int32.zero_add]) ⟨cn_in9 (by omega) (by omega), cn_in9 (by omega) (by omega), nm_r (e' := upd (fun _ => 0) (9 * V + U) (nI t)) (by show upd (fun _ => 0) ((9 : Int32) * nI V + nI U).toNatClampNeg (0 + nI t) = _; rw [cn_cl9 (by omega) (by omega), Int32.zero_add]) ⟨pk_in (7 * U + V) 49 (by omega), ?_⟩⟩⟩⟩)))
  rw [nI_clamp (by omega), pk_us]
  refine br_f (by decide) (br_f (by decide) (br_t rfl (br_f (by decide) (br_f (by decide) ?_))))
  refine cn_107 (V := V) (U := U) (t := t) (ans := fun n => if n = 0 then 0 else -3) hp (fun n => Or.inr (Or.inr ⟨by decide, by decide, rfl⟩)) (fun n g a1 a2 a3 a4 a5 a6 a7 a8 a9 a10 a11 a12 post hn h1 h3 H => cn_wd_ok hV hU hVU hn ht (by rw [h1 _ (by omega), if_pos rfl]) h3 H) ⟨hV, hU, hVU, ht, fun _ => ⟨rfl, rfl⟩, fun k _ => rfl, fun _ _ => rfl, fun k _ => rfl⟩ rfl
theorem cn_cell {post : Int32 → Prop} {L : Nat} {xs : Nat → Int32} {p : Int32} (j : Nat) (hL : L ≤ 6) (hj : p = nI j) (hj6 : j < 6) (H : ∀ x, post x) : wpL_cellAt post L xs () p :=
  pk_le L j (fun _ => H _) (fun h => ⟨pk_in j L h hj (by omega), H _⟩) rfl hj
theorem cn_lawOf (hp : post 1 ()) : wpL_lawOf post 212 3392 () x0 x1 x2 x3 x4 x5 := by
  unfold wpL_lawOf
  refine ⟨by omega, by omega, 12, 351, by omega, by omega, ?_⟩
  unfold wpX_init
  refine ⟨by omega, by omega, by omega, by omega, by omega, by omega, by omega, by omega, by omega, by omega, by omega, by omega, by omega, by omega, by omega, by omega, by omega, by omega, by omega, by omega, by omega, by omega, by omega, by omega, ?_⟩
  by_cases hP : cn_isP x0 x1
  · obtain ⟨U, V, hU, hV, hVU, e0, e1⟩ := hP
    subst e0 e1
    refine br_f (nI_pos (by omega)) (br_f (nI_nlt (a := 6) (by omega) (by omega)) (br_f (nI_pos (by omega)) (br_f (nI_nlt (a := 6) (by omega) (by omega)) (pk_eq U V (fun z => absurd z hVU) (fun _ => ?_)))))
    unfold wL_lawOf_39
    refine br_c (fun h => cn_57b hp hV hU (Ne.symm hVU) (Or.inl h)) (fun h => br_c (fun h' => cn_57b hp hV hU (Ne.symm hVU) (Or.inr h')) (fun h' => ?_))
    obtain ⟨t, ht, et⟩ := nI_of2 (x := x2) (M := 1000) (n := 1000) (by decide) h (Int32.not_lt.mp h')
    subst et
    exact cn_57g hp hV hU (Ne.symm hVU) ht
  · have k : wL_lawOf_38 post 212 3392 x0 x1 x2 x3 x4 x5 (1 + 12) (13 + 351) 0 (fun _ => 0) (fun _ => 0) (fun _ => 0) (fun _ => 0) (fun _ => 0) (fun _ => 0) (fun _ => 0) (fun _ => 0) (fun _ => 0) (fun _ => 0) (fun _ => 0) (fun _ => 0) := by
      unfold wL_lawOf_38 wL_lawOf_39
      exact br_c (fun _ => cn_57n hp hP) (fun _ => br_c (fun _ => cn_57n hp hP) (fun _ => cn_57n hp hP))
    refine br_c (fun _ => k) (fun q1 => br_c (fun _ => k) (fun q2 => br_c (fun _ => k) (fun q3 => br_c (fun _ => k) (fun q4 => br_c (fun _ => k) (fun q5 => ?_)))))
    obtain ⟨a, ha, ea⟩ := cn_mem q1 q2
    obtain ⟨b, hb, eb⟩ := cn_mem q3 q4
    exact absurd ⟨a, b, ha, hb, fun z => q5 (by rw [ea, eb, z]), ea, eb⟩ hP
theorem i_vc (xs : Nat → Int32) (L : Nat) (hL : L ≤ 6) : wpL_law (fun r => r = 1) L xs :=
  cn_cell 0 hL rfl (by omega) (fun _ => cn_cell 1 hL rfl (by omega) (fun _ => cn_cell 2 hL rfl (by omega) (fun _ => cn_cell 3 hL rfl (by omega) (fun _ => cn_cell 4 hL rfl (by omega) (fun _ => cn_cell 5 hL rfl (by omega) (fun _ => ⟨212, 3392, by omega, by omega, cn_lawOf rfl⟩))))))
end
end
