section
theorem ff_ix (a b c : Nat) : nI a * nI b + nI c = nI (a * b + c) := by rw [pk_mul, nI_add]
def ff_ps (f : Nat → Nat) : Nat → Nat
  | 0 => 0
  | l + 1 => ff_ps f l + f l
/-- the ways on from a state s with n letters: q living states, st the machine's steps -/
def ff_T (q : Nat) (st : Nat → Nat) : Nat → Nat → Nat
  | 0, s => if s < q then 1 else 0
  | n + 1, s => if s < q then ff_ps (fun l => ff_T q st n (st (3 * s + l))) 3 else 0
theorem ff_T_dead {q : Nat} {st : Nat → Nat} {s : Nat} (h : ¬ s < q) (n : Nat) : ff_T q st n s = 0 := by
  cases n with
  | zero => exact if_neg h
  | succ n => exact if_neg h
/-- one place of a new row -/
theorem ff_63 {post : St2 → Prop} {J35 J43 : Int32 → (Nat → Int32) → (Nat → Int32) → (Nat → Int32) → (Nat → Int64) → (Nat → Int64) → (Nat → Int64) → (Nat → Int32) → (Nat → Int32) → Prop}
    {n s q : Nat} {st : Nat → Nat} {fc fb : Int32} {a1 a2 a3 : Nat → Int32} {g0 a5 a6 : Nat → Int64} {a7 a8 : Nat → Int32}
    (hn : n < 30) (hs : s < 26) (hq : q ≤ 26) (h3 : ∀ j, j < 78 → a3 j = nI (st j)) (hst : ∀ j, st j < 26)
    (hT : ∀ j, j < 26 → g0 (26 * n + j) = lN (ff_T q st n j)) (hz : g0 (26 * (n + 1) + s) = 0)
    (H : ∀ g : Nat → Int64, (∀ j, j ≠ 26 * (n + 1) + s → g j = g0 j) → g (26 * (n + 1) + s) = lN (ff_T q st (n + 1) s) → J43 (nI (s + 1)) a1 a2 a3 g a5 a6 a7 a8) :
    ∃ fu, wX_countWays_63 post J35 J43 (nI (n + 1)) (nI s) fc (nI q) fb fu 0 a1 a2 a3 g0 a5 a6 a7 a8 := by
  by_cases hsq : s < q
  · refine pk_loop (fun m l g => wX_countWays_63 post J35 J43 (nI (n + 1)) (nI s) fc (nI q) fb m (nI l) a1 a2 a3 g a5 a6 a7 a8)
      (fun l g => (∀ j, j ≠ 26 * (n + 1) + s → g j = g0 j) ∧ g (26 * (n + 1) + s) = lN (ff_ps (fun l => ff_T q st n (st (3 * s + l))) l)) 3 0 g0 (by omega) ⟨fun j _ => rfl, hz⟩ ?_ ?_
    · intro m g hg
      refine pk_le 3 3 (fun _ => nm_r (nI_1 s) (H g hg.1 ?_)) (fun z => absurd z (by omega))
      rw [hg.2]
      exact congrArg lN (if_pos hsq).symm
    · intro m l g hl hg hw
      have e1 : (26 : Int32) * nI (n + 1) + nI s = nI (26 * (n + 1) + s) := ff_ix 26 (n + 1) s
      have e2 : (3 : Int32) * nI s + nI l = nI (3 * s + l) := ff_ix 3 s l
      have e3 : nI (n + 1) - 1 = nI n := nI_pred n
      have e4 : (26 : Int32) * nI n + nI (st (3 * s + l)) = nI (26 * n + st (3 * s + l)) := ff_ix 26 n _
      have hb := hst (3 * s + l)
      have c1 : (nI (26 * (n + 1) + s)).toNatClampNeg = 26 * (n + 1) + s := nI_clamp (by omega)
      have c2 : (nI (3 * s + l)).toNatClampNeg = 3 * s + l := nI_clamp (by omega)
      have c4 : (nI (26 * n + st (3 * s + l))).toNatClampNeg = 26 * n + st (3 * s + l) := nI_clamp (by omega)
      have t3 : a3 (3 * s + l) = nI (st (3 * s + l)) := h3 _ (by omega)
      have t4 : g (26 * n + st (3 * s + l)) = lN (ff_T q st n (st (3 * s + l))) := by
        rw [hg.1 _ (by omega)]
        exact hT _ hb
      show wX_countWays_63 post J35 J43 (nI (n + 1)) (nI s) fc (nI q) fb (m + 1) (nI l) a1 a2 a3 g a5 a6 a7 a8
      unfold wX_countWays_63
      rw [e1, e2, c1, c2, t3, e3, e4, c4, t4, hg.2, lN_add]
      refine pk_le 3 l (fun z => absurd z (by omega)) (fun _ => pk_le q s (fun z => absurd z (by omega)) (fun _ => ⟨vp_in_nI (by omega) (by omega), vp_in_nI (by omega) (by omega), vp_in_nI (by omega) (by omega), vp_in_nI (by omega) (by omega), nm_e (nm_r (nI_1 l) (hw _ ⟨fun j hj => ?_, ?_⟩))⟩))
      · rw [pk_uLn hj]
        exact hg.1 j hj
      · rw [pk_uLs]
        rfl
  · refine ⟨1, pk_le 3 0 (fun z => absurd z (by omega)) (fun _ => pk_le q s (fun _ => nm_r (nI_1 s) (H g0 (fun j _ => rfl) ?_)) (fun z => absurd z (by omega)))⟩
    rw [hz, ff_T_dead hsq]
    rfl
/-- one row -/
theorem ff_43 {post : St2 → Prop} {J35 : Int32 → (Nat → Int32) → (Nat → Int32) → (Nat → Int32) → (Nat → Int64) → (Nat → Int64) → (Nat → Int64) → (Nat → Int32) → (Nat → Int32) → Prop}
    {n q : Nat} {st : Nat → Nat} {fc fb : Int32} {a1 a2 a3 : Nat → Int32} {g0 a5 a6 : Nat → Int64} {a7 a8 : Nat → Int32}
    (hn : n < 30) (hq : q ≤ 26) (h3 : ∀ j, j < 78 → a3 j = nI (st j)) (hst : ∀ j, st j < 26)
    (hT : ∀ m, m ≤ n → ∀ j, j < 26 → g0 (26 * m + j) = lN (ff_T q st m j))
    (H : ∀ g : Nat → Int64, (∀ m, m ≤ n + 1 → ∀ j, j < 26 → g (26 * m + j) = lN (ff_T q st m j)) → J35 (nI (n + 1 + 1)) a1 a2 a3 g a5 a6 a7 a8) :
    ∃ fu, wX_countWays_43 post J35 (nI (n + 1)) fc (nI q) fb fu 0 a1 a2 a3 g0 a5 a6 a7 a8 := by
  refine pk_loop (fun m s g => wX_countWays_43 post J35 (nI (n + 1)) fc (nI q) fb m (nI s) a1 a2 a3 g a5 a6 a7 a8)
    (fun s g => (∀ m, m ≤ n → ∀ j, j < 26 → g (26 * m + j) = lN (ff_T q st m j)) ∧ (∀ j, j < s → g (26 * (n + 1) + j) = lN (ff_T q st (n + 1) j))) 26 0 g0 (by omega) ⟨hT, fun j hj => absurd hj (by omega)⟩ ?_ ?_
  · intro k g hg
    refine pk_le 26 26 (fun _ => nm_r (nI_1 (n + 1)) (H g (fun m hm j hj => ?_))) (fun z => absurd z (by omega))
    by_cases e : m = n + 1
    · rw [e]
      exact hg.2 j hj
    · exact hg.1 m (by omega) j hj
  · intro k s g hs hg hw
    have e1 : (26 : Int32) * nI (n + 1) + nI s = nI (26 * (n + 1) + s) := ff_ix 26 (n + 1) s
    have c1 : (nI (26 * (n + 1) + s)).toNatClampNeg = 26 * (n + 1) + s := nI_clamp (by omega)
    show wX_countWays_43 post J35 (nI (n + 1)) fc (nI q) fb (k + 1) (nI s) a1 a2 a3 g a5 a6 a7 a8
    unfold wX_countWays_43
    rw [e1, c1]
    refine pk_le 26 s (fun z => absurd z (by omega)) (fun _ => ⟨vp_in_nI (by omega) (by omega), nm_e (ff_63 (st := st) hn hs hq h3 hst (fun j hj => ?_) pk_uLs (fun g' h1 h2 => hw g' ⟨fun m hm j hj => ?_, fun j hj => ?_⟩))⟩)
    · rw [pk_uLn (by omega)]
      exact hg.1 n (by omega) j hj
    · rw [h1 _ (by omega), pk_uLn (by omega)]
      exact hg.1 m hm j hj
    · by_cases e : j = s
      · rw [e]
        exact h2
      · rw [h1 _ (by omega), pk_uLn (by omega)]
        exact hg.2 j (by omega)
/-- the whole table -/
theorem ff_countWays {post : St2 → Prop} {q : Nat} {st : Nat → Nat} {fc fb : Int32} {a1 a2 a3 : Nat → Int32} {a4 a5 a6 : Nat → Int64} {a7 a8 : Nat → Int32}
    (hq : q ≤ 26) (h3 : ∀ j, j < 78 → a3 j = nI (st j)) (hst : ∀ j, st j < 26)
    (H : ∀ g : Nat → Int64, (∀ m, m ≤ 30 → ∀ j, j < 26 → g (26 * m + j) = lN (ff_T q st m j)) → post (fc, nI q, fb, a1, a2, a3, g, a5, a6, a7, a8)) :
    wpX_countWays post (fc, nI q, fb, a1, a2, a3, a4, a5, a6, a7, a8) := by
  have R : ∀ g0 : Nat → Int64, (∀ j, j < 26 → g0 j = lN (ff_T q st 0 j)) → ∃ fu, wX_countWays_35 post fc (nI q) fb fu 1 a1 a2 a3 g0 a5 a6 a7 a8 := by
    intro g0 h0
    refine pk_loop (fun m i g => wX_countWays_35 post fc (nI q) fb m (nI (i + 1)) a1 a2 a3 g a5 a6 a7 a8)
      (fun i g => ∀ m, m ≤ i → ∀ j, j < 26 → g (26 * m + j) = lN (ff_T q st m j)) 30 0 g0 (by omega) (fun m hm j hj => ?_) ?_ ?_
    · have e : m = 0 := by omega
      subst e
      rw [show 26 * 0 + j = j by omega]
      exact h0 j hj
    · intro k g hg
      exact pk_lt 30 31 (fun _ => H g hg) (fun z => absurd z (by omega))
    · intro k i g hi hg hw
      exact pk_lt 30 (i + 1) (fun z => absurd z (by omega)) (fun _ => ff_43 (st := st) hi hq h3 hst hg (fun g' h' => hw g' h'))
  refine pk_loop (fun m s g => wX_countWays_2 post fc (nI q) fb m (nI s) a1 a2 a3 g a5 a6 a7 a8)
    (fun s g => ∀ j, j < s → g j = lN (ff_T q st 0 j)) 26 0 a4 (by omega) (fun j hj => absurd hj (by omega)) ?_ ?_
  · intro k g hg
    exact pk_le 26 26 (fun _ => R g hg) (fun z => absurd z (by omega))
  · intro k s g hs hg hw
    have c1 : (nI s).toNatClampNeg = s := nI_clamp (by omega)
    show wX_countWays_2 post fc (nI q) fb (k + 1) (nI s) a1 a2 a3 g a5 a6 a7 a8
    unfold wX_countWays_2
    rw [c1]
    refine pk_le 26 s (fun z => absurd z (by omega)) (fun _ => pk_le q s (fun z => ⟨vp_in_nI (by omega) (by omega), nm_e (nm_r (nI_1 s) (hw _ (fun j hj => ?_)))⟩) (fun z => ⟨vp_in_nI (by omega) (by omega), nm_e (nm_r (nI_1 s) (hw _ (fun j hj => ?_)))⟩))
    · by_cases e : j = s
      · rw [e, pk_uLs, ff_T_dead (by omega)]
        rfl
      · rw [pk_uLn e]
        exact hg j (by omega)
    · by_cases e : j = s
      · rw [e, pk_uLs]
        exact congrArg lN (if_pos z).symm
      · rw [pk_uLn e]
        exact hg j (by omega)
end
section
theorem ff_power {post : Int32 → Prop} {x : Int32} (k : Nat) (H : post (nI (3 ^ k))) (hx : x = nI k := by rfl) (hk : k < 2 ^ 31 := by omega) : wpX_power post () x := by
  subst hx
  exact pk_loop (fun n i s => wX_power_4 post (nI k) n s (nI i)) (fun i s => s = nI (3 ^ i)) k 0 1 (by omega) rfl
    (fun n s h => pk_le k k (fun _ => by rw [h]; exact H) (fun z => absurd z (by omega)))
    (fun n i s hi h hw => pk_le k i (fun z => absurd z (by omega)) (fun _ => nm_r (e' := nI (3 ^ (i + 1))) (by rw [h]; exact pk_mul (3 ^ i) 3) (nm_r (nI_1 i) (hw _ rfl))))
theorem ff_size1 {post : Int32 → Prop} {p : Nat} (hp : p < 6) (H : post (nI 1)) : wpX_sizeOf post () (nI p) :=
  ⟨1, pk_le 4 1 (fun z => absurd z (by omega)) (fun _ => ff_power 1 (pk_lt p 6 (fun _ => H) (fun z => absurd z (by omega))))⟩
theorem ff_size2 {post : Int32 → Prop} {p : Nat} (h6 : 6 ≤ p) (hp : p < 18) (H : post (nI 2)) : wpX_sizeOf post () (nI p) :=
  ⟨2, pk_le 4 1 (fun z => absurd z (by omega)) (fun _ => ff_power 1 (pk_lt p 6 (fun z => absurd z (by omega)) (fun _ => nm_r (e' := nI 2) rfl
    (pk_le 4 2 (fun z => absurd z (by omega)) (fun _ => ff_power 2 (pk_lt p 18 (fun _ => H) (fun z => absurd z (by omega))))))))⟩
theorem ff_piece1 {post : Int32 → Prop} {p : Nat} (h3 : 3 ≤ p) (hp : p < 6) (H : post 1) : wpX_isPiece post () (nI p) :=
  ff_size1 hp (ff_power 1 (pk_lt p 3 (fun z => absurd z (by omega)) (fun _ => ff_power 1 (pk_le 6 p (fun z => absurd z (by omega)) (fun _ => H)))))
theorem ff_piece2 {post : Int32 → Prop} {p : Nat} (h9 : 9 ≤ p) (hp : p < 18) (H : post 1) : wpX_isPiece post () (nI p) :=
  ff_size2 (by omega) hp (ff_power 2 (pk_lt p 9 (fun z => absurd z (by omega)) (fun _ => ff_power 2 (pk_le 18 p (fun z => absurd z (by omega)) (fun _ => H)))))
theorem ff_place0 {post : Int32 → Prop} {x fs fb : Int32} {a1 a2 a3 : Nat → Int32} {a4 a5 a6 : Nat → Int64} {a7 a8 : Nat → Int32} (H : post (-1)) : wpX_place post (0, fs, fb, a1, a2, a3, a4, a5, a6, a7, a8) x :=
  ⟨1, pk_le 0 0 (fun _ => H) (fun z => absurd z (by omega))⟩
theorem ff_place1 {post : Int32 → Prop} {x fs fb : Int32} {a1 a2 a3 : Nat → Int32} {a4 a5 a6 : Nat → Int64} {a7 a8 : Nat → Int32} (Ht : a1 0 = x → post 0) (Hf : ¬ a1 0 = x → post (-1)) : wpX_place post (1, fs, fb, a1, a2, a3, a4, a5, a6, a7, a8) x :=
  ⟨2, pk_le 1 0 (fun z => absurd z (by omega)) (fun _ => ⟨pk_in 0 6 (by omega), br_c Ht (fun h => nm_r (e' := nI 1) rfl (pk_le 1 1 (fun _ => Hf h) (fun z => absurd z (by omega))))⟩)⟩
theorem ff_state0 {post : Int32 → Prop} {x fc fb : Int32} {q : Nat} {a1 a2 a3 : Nat → Int32} {a4 a5 a6 : Nat → Int64} {a7 a8 : Nat → Int32} (hq : q ≤ 26) (h : ∀ j, j < q → ¬ a2 j = x) (H : post (-1)) : wpX_stateOf post (fc, nI q, fb, a1, a2, a3, a4, a5, a6, a7, a8) x :=
  pk_loop (σ := Unit) (fun n i _ => wX_stateOf_2 post x fc (nI q) fb a1 a2 a3 a4 a5 a6 a7 a8 n (nI i)) (fun _ _ => True) q 0 () (by omega) trivial
    (fun n _ _ => pk_le q q (fun _ => H) (fun z => absurd z (by omega)))
    (fun n i _ hi _ hw => pk_le q i (fun z => absurd z (by omega)) (fun _ => ⟨pk_in i 26 (by omega), br_f (by rw [nI_clamp (by omega)]; exact h i hi) (nm_r (nI_1 i) (hw () trivial))⟩))
theorem ff_state1 {post : Int32 → Prop} {x fc fb : Int32} {q s : Nat} {a1 a2 a3 : Nat → Int32} {a4 a5 a6 : Nat → Int64} {a7 a8 : Nat → Int32} (hq : q ≤ 26) (hs : s < q) (h : ∀ j, j < s → ¬ a2 j = x) (h2 : a2 s = x) (H : post (nI s)) : wpX_stateOf post (fc, nI q, fb, a1, a2, a3, a4, a5, a6, a7, a8) x :=
  pk_loop (σ := Unit) (fun n i _ => wX_stateOf_2 post x fc (nI q) fb a1 a2 a3 a4 a5 a6 a7 a8 n (nI i)) (fun _ _ => True) s 0 () (by omega) trivial
    (fun n _ _ => pk_le q s (fun z => absurd z (by omega)) (fun _ => ⟨pk_in s 26 (by omega), br_t (by rw [nI_clamp (by omega)]; exact h2) H⟩))
    (fun n i _ hi _ hw => pk_le q i (fun z => absurd z (by omega)) (fun _ => ⟨pk_in i 26 (by omega), br_f (by rw [nI_clamp (by omega)]; exact h i hi) (nm_r (nI_1 i) (hw () trivial))⟩))
/-- a word of one letter -/
theorem ff_target1 {post : Int32 → Prop} {fs fb : Int32} {l : Nat} {a1 a2 a3 : Nat → Int32} {a4 a5 a6 : Nat → Int64} {a7 a8 : Nat → Int32} (hl : l < 3)
    (hA : a1 0 = nI (3 + l) → post 25)
    (hB : ¬ a1 0 = nI (3 + l) → ∃ r : Int32, (∀ ψ : Int32 → Prop, ψ r → wpX_stateOf ψ (1, fs, fb, a1, a2, a3, a4, a5, a6, a7, a8) (nI (3 + l))) ∧ (r < 0 → post 0) ∧ (¬ r < 0 → post r)) :
    wpX_target post (1, fs, fb, a1, a2, a3, a4, a5, a6, a7, a8) (nI (3 + l)) := by
  have e0 : nI (3 + l) - nI (3 ^ 1) = nI l := by rw [pk_sub (by omega)]; exact congrArg nI (by omega)
  have e1 : nI (3 ^ 1) + (nI l - nI l / nI (3 ^ 1) * nI (3 ^ 1)) = nI (3 + l) := by
    rw [pk_rem (by omega) (by omega) (by omega), nI_add]
    exact congrArg nI (by omega)
  refine ⟨2, pk_le 5 0 (fun z => absurd z (by omega)) (fun _ => ff_power 1 (pk_lt (3 + l) 3 (fun z => absurd z (by omega)) (fun _ => nm_r (e' := nI 1) rfl ?_)))⟩
  refine pk_le 5 1 (fun z => absurd z (by omega)) (fun _ => ff_power 2 (pk_lt (3 + l) 9 (fun _ => ?_) (fun z => absurd z (by omega))))
  refine ff_power 1 (pk_le 3 (3 + l) (fun _ => ?_) (fun z => absurd z (by omega)))
  refine ff_power 1 (nm_r e0 ⟨2, ?_⟩)
  refine pk_le 1 0 (fun z => absurd z (by omega)) (fun _ => ff_power 1 (ff_power 1 ⟨nI_ne0 (by omega) (by omega), nm_r e1 ?_⟩))
  refine ff_place1 (fun h => br_f (by decide) (hA h)) (fun h => br_t (by decide) (nm_r (e' := nI 1) rfl ?_))
  refine pk_le 1 1 (fun _ => ⟨2, ?_⟩) (fun z => absurd z (by omega))
  refine pk_le 1 0 (fun z => absurd z (by omega)) (fun _ => ff_power 1 (ff_power 1 ⟨nI_ne0 (by omega) (by omega), nm_r e1 ?_⟩))
  obtain ⟨r, hr, h0, h1⟩ := hB h
  exact hr _ ⟨fun z => nm_r (e' := nI 1) rfl (pk_le 1 1 (fun _ => h0 z) (fun z => absurd z (by omega))), h1⟩
/-- a word of two letters that is no beginning -/
theorem ff_target2 {post : Int32 → Prop} {fs fb : Int32} {m : Nat} {a1 a2 a3 : Nat → Int32} {a4 a5 a6 : Nat → Int64} {a7 a8 : Nat → Int32} (hm : m < 9)
    (hA : a1 0 = nI (9 + m) → post 25) (hC : ¬ a1 0 = nI (3 + m % 3))
    (hN : ∀ ψ : Int32 → Prop, ψ (-1) → wpX_stateOf ψ (1, fs, fb, a1, a2, a3, a4, a5, a6, a7, a8) (nI (9 + m)))
    (hB : ¬ a1 0 = nI (9 + m) → ∃ r : Int32, (∀ ψ : Int32 → Prop, ψ r → wpX_stateOf ψ (1, fs, fb, a1, a2, a3, a4, a5, a6, a7, a8) (nI (3 + m % 3))) ∧ (r < 0 → post 0) ∧ (¬ r < 0 → post r)) :
    wpX_target post (1, fs, fb, a1, a2, a3, a4, a5, a6, a7, a8) (nI (9 + m)) := by
  have e0 : nI (9 + m) - nI (3 ^ 2) = nI m := by rw [pk_sub (by omega)]; exact congrArg nI (by omega)
  have e1 : nI (3 ^ 1) + (nI m - nI m / nI (3 ^ 1) * nI (3 ^ 1)) = nI (3 + m % 3) := by
    rw [pk_rem (by omega) (by omega) (by omega), nI_add]
  have e2 : nI (3 ^ 2) + (nI m - nI m / nI (3 ^ 2) * nI (3 ^ 2)) = nI (9 + m) := by
    rw [pk_rem (by omega) (by omega) (by omega), nI_add]
    exact congrArg nI (by omega)
  refine ⟨3, pk_le 5 0 (fun z => absurd z (by omega)) (fun _ => ff_power 1 (pk_lt (9 + m) 3 (fun z => absurd z (by omega)) (fun _ => nm_r (e' := nI 1) rfl ?_)))⟩
  refine pk_le 5 1 (fun z => absurd z (by omega)) (fun _ => ff_power 2 (pk_lt (9 + m) 9 (fun z => absurd z (by omega)) (fun _ => nm_r (e' := nI 2) rfl ?_)))
  refine pk_le 5 2 (fun z => absurd z (by omega)) (fun _ => ff_power 3 (pk_lt (9 + m) 27 (fun _ => ?_) (fun z => absurd z (by omega))))
  refine ff_power 2 (pk_le 9 (9 + m) (fun _ => ?_) (fun z => absurd z (by omega)))
  refine ff_power 2 (nm_r e0 ⟨3, ?_⟩)
  refine pk_le 2 0 (fun z => absurd z (by omega)) (fun _ => ff_power 2 (ff_power 2 ⟨nI_ne0 (by omega) (by omega), nm_r e2 ?_⟩))
  refine ff_place1 (fun h => br_f (by decide) (hA h)) (fun h => br_t (by decide) (nm_r (e' := nI 1) rfl ?_))
  refine pk_le 2 1 (fun z => absurd z (by omega)) (fun _ => ff_power 1 (ff_power 1 ⟨nI_ne0 (by omega) (by omega), nm_r e1 ?_⟩))
  refine ff_place1 (fun h => absurd h hC) (fun _ => br_t (by decide) (nm_r (e' := nI 2) rfl ?_))
  refine pk_le 2 2 (fun _ => ⟨3, ?_⟩) (fun z => absurd z (by omega))
  refine pk_le 2 0 (fun z => absurd z (by omega)) (fun _ => ff_power 2 (ff_power 2 ⟨nI_ne0 (by omega) (by omega), nm_r e2 ?_⟩))
  refine hN _ (br_t (by decide) (nm_r (e' := nI 1) rfl ?_))
  refine pk_le 2 1 (fun z => absurd z (by omega)) (fun _ => ff_power 1 (ff_power 1 ⟨nI_ne0 (by omega) (by omega), nm_r e1 ?_⟩))
  obtain ⟨r, hr, h0, h1⟩ := hB h
  exact hr _ ⟨fun z => nm_r (e' := nI 2) rfl (pk_le 2 2 (fun _ => h0 z) (fun z => absurd z (by omega))), h1⟩
/-- the dead row, then the table -/
theorem ff_153 {post : St2 → Prop} {q : Nat} {st : Nat → Nat} {a1 a2 a3 : Nat → Int32} {a4 a5 a6 : Nat → Int64} {a7 a8 : Nat → Int32}
    (hq : q ≤ 25) (hst : ∀ j, st j < 26) (hd : ∀ j, 75 ≤ j → st j = 25) (h3 : ∀ j, j < 75 → a3 j = nI (st j))
    (H : ∀ (b3 : Nat → Int32) (g : Nat → Int64), (∀ j, j < 78 → b3 j = nI (st j)) → (∀ m, m ≤ 30 → ∀ j, j < 26 → g (26 * m + j) = lN (ff_T q st m j)) → post (1, nI q, 1, a1, a2, b3, g, a5, a6, a7, a8)) :
    ∃ fu, wX_build_153 post 1 (nI q) 1 fu 0 a1 a2 a3 a4 a5 a6 a7 a8 := by
  refine pk_loop (fun n i s => wX_build_153 post 1 (nI q) 1 n (nI i) a1 a2 s a4 a5 a6 a7 a8) (fun i s => ∀ j, j < 75 + i → s j = nI (st j)) 3 0 a3 (by omega) (fun j hj => h3 j hj) ?_ ?_
  · intro n s hs
    exact pk_le 3 3 (fun _ => ff_countWays (st := st) (by omega) hs hst (fun g hg => H s g hs hg)) (fun z => absurd z (by omega))
  · intro n i s hi hs hw
    have e1 : (75 : Int32) + nI i = nI (75 + i) := nI_add 75 i
    have c1 : (nI (75 + i)).toNatClampNeg = 75 + i := nI_clamp (by omega)
    show wX_build_153 post 1 (nI q) 1 (n + 1) (nI i) a1 a2 s a4 a5 a6 a7 a8
    unfold wX_build_153
    rw [e1, c1]
    refine pk_le 3 i (fun z => absurd z (by omega)) (fun _ => ⟨vp_in_nI (by omega) (by omega), nm_e (nm_r (nI_1 i) (hw _ (fun j hj => ?_)))⟩)
    by_cases e : j = 75 + i
    · rw [e, pk_us, hd _ (by omega)]
      rfl
    · rw [pk_un e]
      exact hs j (by omega)
/-- the machine's steps -/
theorem ff_111 {post : St2 → Prop} {q : Nat} {st kn : Nat → Nat} {a1 a2 a3 : Nat → Int32} {a4 a5 a6 : Nat → Int64} {a7 a8 : Nat → Int32}
    (hq : q ≤ 25) (hst : ∀ j, st j < 26) (hd : ∀ j, 75 ≤ j → st j = 25) (h0 : ∀ j, 3 * q ≤ j → j < 75 → st j = 0) (hz : ∀ j, a3 j = 0) (h2 : ∀ j, j < q → a2 j = nI (kn j))
    (ht : ∀ (k : Nat) (s : Nat → Int32) (ψ : Int32 → Prop), k < 3 * q → ψ (nI (st k)) → wpX_target ψ (1, nI q, 1, a1, a2, s, a4, a5, a6, a7, a8) (nI (3 * kn (k / 3) + k % 3)))
    (H : ∀ (b3 : Nat → Int32) (g : Nat → Int64), (∀ j, j < 78 → b3 j = nI (st j)) → (∀ m, m ≤ 30 → ∀ j, j < 26 → g (26 * m + j) = lN (ff_T q st m j)) → post (1, nI q, 1, a1, a2, b3, g, a5, a6, a7, a8)) :
    ∃ fu, wX_build_111 post 1 (nI q) 1 fu 0 a1 a2 a3 a4 a5 a6 a7 a8 := by
  have e3 : (3 : Int32) * nI q = nI (3 * q) := pk_mul 3 q
  refine pk_loop (fun n i s => wX_build_111 post 1 (nI q) 1 n (nI i) a1 a2 s a4 a5 a6 a7 a8) (fun i s => (∀ j, j < i → s j = nI (st j)) ∧ (∀ j, i ≤ j → s j = 0)) (3 * q) 0 a3 (by omega) ⟨fun j hj => absurd hj (by omega), fun j _ => hz j⟩ ?_ ?_
  · intro n s hs
    refine pk_le (3 * q) (3 * q) (fun _ => ff_153 (st := st) hq hst hd (fun j hj => ?_) H) (fun z => absurd z (by omega)) e3
    by_cases e : j < 3 * q
    · exact hs.1 j e
    · rw [hs.2 j (by omega), h0 j (by omega) hj]
      rfl
  · intro n i s hi hs hw
    have e4 : nI i / (3 : Int32) = nI (i / 3) := pk_div (a := i) (d := 3) (by omega) (by omega) (by omega)
    have e5 : nI i - nI (i / 3) * (3 : Int32) = nI (i % 3) := by
      rw [← e4]
      exact pk_rem (a := i) (d := 3) (by omega) (by omega) (by omega)
    have c1 : (nI (i / 3)).toNatClampNeg = i / 3 := nI_clamp (by omega)
    have c2 : (nI i).toNatClampNeg = i := nI_clamp (by omega)
    have e6 : (3 : Int32) * nI (kn (i / 3)) + nI (i % 3) = nI (3 * kn (i / 3) + i % 3) := ff_ix 3 _ _
    show wX_build_111 post 1 (nI q) 1 (n + 1) (nI i) a1 a2 s a4 a5 a6 a7 a8
    unfold wX_build_111
    rw [e3, e4, e5, c1, c2, h2 (i / 3) (by omega), e6]
    refine pk_le (3 * q) i (fun z => absurd z (by omega)) (fun _ => ⟨by decide, vp_in_nI (by omega) (by omega), by decide, ht i s _ hi ⟨vp_in_nI (by omega) (by omega), nm_e (nm_r (nI_1 i) (hw _ ⟨fun j hj => ?_, fun j hj => ?_⟩))⟩⟩)
    · by_cases e : j = i
      · rw [e, pk_us]
      · rw [pk_un e]
        exact hs.1 j (by omega)
    · rw [pk_un (by omega)]
      exact hs.2 j (by omega)
/-- the steps for one forbidden letter -/
def ff_s1 (c k : Nat) : Nat := if k < 3 then (if k = c then 25 else 0) else if k < 75 then 0 else 25
/-- the steps for one forbidden pair -/
def ff_s2 (c d k : Nat) : Nat := if k < 3 then (if k = c then 1 else 0) else if k < 6 then (if k = 3 + d then 25 else if k = 3 + c then 1 else 0) else if k < 75 then 0 else 25
theorem ff_s1_lt (c : Nat) : ∀ j, ff_s1 c j < 26 := by
  intro j
  unfold ff_s1
  split
  · split <;> omega
  · split <;> omega
theorem ff_s2_lt (c d : Nat) : ∀ j, ff_s2 c d j < 26 := by
  intro j
  unfold ff_s2
  split
  · split <;> omega
  · split
    · split
      · omega
      · split <;> omega
    · split <;> omega
theorem ff_ne {a b : Nat} (ha : a < 2 ^ 31) (hb : b < 2 ^ 31) (h : a ≠ b) : ¬ nI a = nI b := fun z => h ((nI_eq ha hb).mp z)
/-- build, one letter forbidden -/
theorem ff_build1 {post : St2 → Prop} {c : Nat} {fs : Int32} {a1 a2 a3 : Nat → Int32} {a4 a5 a6 : Nat → Int64} {a7 a8 : Nat → Int32} (hc : c < 3) (h1 : a1 0 = nI (3 + c)) (hz : ∀ j, a3 j = 0)
    (H : ∀ (b2 b3 : Nat → Int32) (g : Nat → Int64), (∀ j, j < 78 → b3 j = nI (ff_s1 c j)) → (∀ m, m ≤ 30 → ∀ j, j < 26 → g (26 * m + j) = lN (ff_T 1 (ff_s1 c) m j)) → post (1, nI 1, 1, a1, b2, b3, g, a5, a6, a7, a8)) :
    wpX_build post (1, fs, 0, a1, a2, a3, a4, a5, a6, a7, a8) := by
  refine br_t rfl (nm_e ⟨2, pk_le 1 0 (fun z => absurd z (by omega)) (fun _ => ⟨pk_in 0 6 (by omega), ?_⟩)⟩)
  have c0 : (0 : Int32).toNatClampNeg = 0 := rfl
  rw [c0, h1]
  refine ff_size1 (by omega) (nm_r (e' := nI 0) rfl ⟨1, pk_lt 0 1 (fun _ => nm_r (e' := nI 1) rfl ?_) (fun z => absurd z (by omega))⟩)
  refine pk_le 1 1 (fun _ => ?_) (fun z => absurd z (by omega))
  refine ff_111 (q := 1) (st := ff_s1 c) (kn := fun _ => 1) (by omega) (ff_s1_lt c) (fun j hj => ?_) (fun j h j2 => ?_) hz (fun j hj => ?_) (fun k s ψ hk hψ => ?_) (H _)
  · unfold ff_s1
    rw [if_neg (by omega), if_neg (by omega)]
  · unfold ff_s1
    rw [if_neg (by omega), if_pos (by omega)]
  · have e : j = 0 := by omega
    rw [e, pk_us]
    rfl
  · have e : 3 * 1 + k % 3 = 3 + k := by omega
    show wpX_target ψ _ (nI (3 * 1 + k % 3))
    rw [e]
    refine ff_target1 (by omega) (fun h => ?_) (fun h => ⟨-1, fun ψ' h' => ff_state0 (by omega) (fun j hj z => ?_) h', fun _ => ?_, fun z => absurd (by decide) z⟩)
    · rw [h1, nI_eq (by omega) (by omega)] at h
      have e2 : ff_s1 c k = 25 := by
        unfold ff_s1
        rw [if_pos (by omega), if_pos (by omega)]
      rw [e2] at hψ
      exact hψ
    · have e : j = 0 := by omega
      rw [e, pk_us] at z
      exact ff_ne (a := 1) (by omega) (by omega) (by omega) z
    · have e2 : ff_s1 c k = 0 := by
        unfold ff_s1
        rw [if_pos (by omega), if_neg (fun z => h (by rw [h1, z]))]
      rw [e2] at hψ
      exact hψ
/-- build, one pair forbidden -/
theorem ff_build2 {post : St2 → Prop} {c d : Nat} {fs : Int32} {a1 a2 a3 : Nat → Int32} {a4 a5 a6 : Nat → Int64} {a7 a8 : Nat → Int32} (hc : c < 3) (hd : d < 3) (h1 : a1 0 = nI (9 + 3 * c + d)) (hz : ∀ j, a3 j = 0)
    (H : ∀ (b2 b3 : Nat → Int32) (g : Nat → Int64), (∀ j, j < 78 → b3 j = nI (ff_s2 c d j)) → (∀ m, m ≤ 30 → ∀ j, j < 26 → g (26 * m + j) = lN (ff_T 2 (ff_s2 c d) m j)) → post (1, nI 2, 1, a1, b2, b3, g, a5, a6, a7, a8)) :
    wpX_build post (1, fs, 0, a1, a2, a3, a4, a5, a6, a7, a8) := by
  refine br_t rfl (nm_e ⟨2, pk_le 1 0 (fun z => absurd z (by omega)) (fun _ => ⟨pk_in 0 6 (by omega), ?_⟩)⟩)
  have c0 : (0 : Int32).toNatClampNeg = 0 := rfl
  have e1 : nI (9 + 3 * c + d) / nI (3 ^ 1) = nI (3 + c) := by
    rw [pk_div (by omega) (by omega) (by omega)]
    exact congrArg nI (by omega)
  rw [c0, h1]
  refine ff_size2 (by omega) (by omega) (nm_r (e' := nI 1) rfl ⟨2, pk_lt 1 1 (fun z => absurd z (by omega)) (fun _ => ⟨pk_in 0 6 (by omega), ff_power 1 ⟨nI_ne0 (by omega) (by omega), ?_⟩⟩)⟩)
  rw [c0, h1]
  refine nm_r e1 (ff_state0 (q := 1) (by omega) (fun j hj z => ?_) (br_f (by decide) ⟨pk_in 1 26 (by omega), nm_e (nm_r (e' := nI 2) rfl (nm_r (e' := nI 0) rfl ?_))⟩))
  · have e : j = 0 := by omega
    rw [e, pk_us] at z
    exact ff_ne (a := 1) (by omega) (by omega) (by omega) z
  refine pk_lt 0 1 (fun _ => nm_r (e' := nI 1) rfl ?_) (fun z => absurd z (by omega))
  refine pk_le 1 1 (fun _ => ?_) (fun z => absurd z (by omega))
  have k0 : upd (upd a2 0 1) 1 (nI (3 + c)) 0 = nI 1 := by
    rw [pk_un (by omega), pk_us]
    rfl
  have k1 : upd (upd a2 0 1) 1 (nI (3 + c)) 1 = nI (3 + c) := pk_us
  refine ff_111 (q := 2) (st := ff_s2 c d) (kn := fun s => if s = 0 then 1 else 3 + c) (a2 := upd (upd a2 0 1) 1 (nI (3 + c))) (by omega) (ff_s2_lt c d) (fun j hj => ?_) (fun j h j2 => ?_) hz (fun j hj => ?_) (fun k s ψ hk hψ => ?_) (H _)
  · unfold ff_s2
    rw [if_neg (by omega), if_neg (by omega), if_neg (by omega)]
  · unfold ff_s2
    rw [if_neg (by omega), if_neg (by omega), if_pos (by omega)]
  · rcases (show j = 0 ∨ j = 1 by omega) with e | e
    · rw [e]
      exact k0
    · rw [e]
      exact k1
  · show wpX_target ψ _ (nI (3 * (if k / 3 = 0 then 1 else 3 + c) + k % 3))
    have F : ∀ l, l < 3 → (ψ (nI 1) ∨ l ≠ c) → (ψ 0 ∨ l = c) → ∃ r : Int32, (∀ ψ' : Int32 → Prop, ψ' r → wpX_stateOf ψ' (1, nI 2, 1, a1, upd (upd a2 0 1) 1 (nI (3 + c)), s, a4, a5, a6, a7, a8) (nI (3 + l))) ∧ (r < 0 → ψ 0) ∧ (¬ r < 0 → ψ r) := by
      intro l hl hy hn
      by_cases e : l = c
      · refine ⟨nI 1, fun ψ' h' => ff_state1 (q := 2) (s := 1) (by omega) (by omega) (fun j hj z => ?_) (by rw [k1, e]) h', fun z => absurd z (by decide), fun _ => ?_⟩
        · have e : j = 0 := by omega
          rw [e, k0] at z
          exact ff_ne (by omega) (by omega) (by omega) z
        · rcases hy with y | y
          · exact y
          · exact absurd e y
      · refine ⟨-1, fun ψ' h' => ff_state0 (q := 2) (by omega) (fun j hj z => ?_) h', fun _ => ?_, fun z => absurd (by decide) z⟩
        · rcases (show j = 0 ∨ j = 1 by omega) with g | g
          · rw [g, k0] at z
            exact ff_ne (by omega) (by omega) (by omega) z
          · rw [g, k1] at z
            exact ff_ne (by omega) (by omega) (by omega) z
        · rcases hn with y | y
          · exact y
          · exact absurd y e
    by_cases hk3 : k < 3
    · rw [if_pos (by omega), show 3 * 1 + k % 3 = 3 + k by omega]
      have hs : ff_s2 c d k = if k = c then 1 else 0 := if_pos hk3
      rw [hs] at hψ
      refine ff_target1 hk3 (fun h => ?_) (fun _ => F k hk3 ?_ ?_)
      · rw [h1] at h
        exact absurd h (ff_ne (by omega) (by omega) (by omega))
      · by_cases e : k = c
        · rw [if_pos e] at hψ
          exact Or.inl hψ
        · exact Or.inr e
      · by_cases e : k = c
        · exact Or.inr e
        · rw [if_neg e] at hψ
          exact Or.inl hψ
    · rw [if_neg (by omega), show 3 * (3 + c) + k % 3 = 9 + (3 * c + (k - 3)) by omega]
      have hs : ff_s2 c d k = if k = 3 + d then 25 else if k = 3 + c then 1 else 0 := by
        unfold ff_s2
        rw [if_neg hk3, if_pos (by omega)]
      rw [hs] at hψ
      have em : (3 * c + (k - 3)) % 3 = k - 3 := by omega
      refine ff_target2 (by omega) (fun h => ?_) (fun h => ?_) (fun ψ' h' => ff_state0 (q := 2) (by omega) (fun j hj z => ?_) h') (fun h => ?_)
      · rw [h1, nI_eq (by omega) (by omega)] at h
        rw [if_pos (by omega)] at hψ
        exact hψ
      · rw [h1] at h
        exact absurd h (ff_ne (by omega) (by omega) (by omega))
      · rcases (show j = 0 ∨ j = 1 by omega) with g | g
        · rw [g, k0] at z
          exact ff_ne (by omega) (by omega) (by omega) z
        · rw [g, k1] at z
          exact ff_ne (by omega) (by omega) (by omega) z
      · have hd' : k ≠ 3 + d := fun z => h (by rw [h1]; exact congrArg nI (by omega))
        rw [if_neg hd'] at hψ
        rw [em]
        refine F (k - 3) (by omega) ?_ ?_
        · by_cases e : k = 3 + c
          · rw [if_pos e] at hψ
            exact Or.inl hψ
          · exact Or.inr (by omega)
        · by_cases e : k = 3 + c
          · exact Or.inr (by omega)
          · rw [if_neg e] at hψ
            exact Or.inl hψ
end
section
theorem ff_m1 (x : Int32) : x + (-1) = x - 1 := by rw [Int32.sub_eq_add_neg]
theorem ff_neg : nI 0 - 1 < 0 := by decide
/-- build on a machine that stands -/
theorem ff_built {post : St2 → Prop} {q : Nat} {a1 a2 a3 : Nat → Int32} {a4 a5 a6 : Nat → Int64} {a7 a8 : Nat → Int32} (H : post (1, nI q, 1, a1, a2, a3, a4, a5, a6, a7, a8)) : wpX_build post (1, nI q, 1, a1, a2, a3, a4, a5, a6, a7, a8) :=
  br_f (by decide) H
theorem ff_count {post : Int64 → St2 → Prop} {q : Nat} {T : Nat → Nat → Nat} {x : Int32} {a1 a2 a3 : Nat → Int32} {a4 a5 a6 : Nat → Int64} {a7 a8 : Nat → Int32} (n : Nat) (hn : n ≤ 30)
    (h4 : ∀ m, m ≤ 30 → ∀ j, j < 26 → a4 (26 * m + j) = lN (T m j)) (H : post (lN (T n 0)) (1, nI q, 1, a1, a2, a3, a4, a5, a6, a7, a8)) (hx : x = nI n := by rfl) :
    wpX_count post (1, nI q, 1, a1, a2, a3, a4, a5, a6, a7, a8) x := by
  subst hx
  have e : (26 : Int32) * nI n = nI (26 * n) := pk_mul 26 n
  have c1 : (nI (26 * n)).toNatClampNeg = 26 * n := nI_clamp (by omega)
  have t : a4 (26 * n) = lN (T n 0) := h4 n hn 0 (by omega)
  refine pk_lt n 0 (fun z => absurd z (by omega)) (fun _ => pk_le n 30 (fun _ => ff_built ⟨pk_in (26 * n) 806 (by omega) e, ?_⟩) (fun z => absurd z (by omega)))
  rw [e, c1, t]
  exact H
theorem ff_longest {post : Int32 → St2 → Prop} {q : Nat} {a1 a2 a3 : Nat → Int32} {a4 a5 a6 : Nat → Int64} {a7 a8 : Nat → Int32} (h4 : ¬ a4 234 = 0) (H : post 9 (1, nI q, 1, a1, a2, a3, a4, a5, a6, a7, a8)) :
    wpX_longest post (1, nI q, 1, a1, a2, a3, a4, a5, a6, a7, a8) := by
  have c1 : ((26 : Int32) * 9).toNatClampNeg = 234 := by decide
  refine ff_built ⟨1, pk_le 9 0 (fun z => absurd z (by omega)) (fun _ => ⟨pk_in 234 806 (by omega), br_f ?_ H⟩)⟩
  rw [c1]
  exact h4
/-- the state behind k letters of the word w -/
def ff_rd (st : Nat → Nat) : Nat → Nat → Nat → Nat
  | 0, s, _ => s
  | k + 1, s, w => ff_rd st k (st (3 * s + w / 3 ^ k % 3)) w
theorem ff_rd_lt {st : Nat → Nat} (hst : ∀ j, st j < 26) : ∀ (k s w : Nat), s < 26 → ff_rd st k s w < 26 := by
  intro k
  induction k with
  | zero => exact fun s w h => h
  | succ k ih => exact fun s w _ => ih _ w (hst _)
theorem ff_read8 {post : Int32 → Prop} {fc fs fb : Int32} {w : Nat} {st : Nat → Nat} {a1 a2 a3 : Nat → Int32} {a4 a5 a6 : Nat → Int64} {a7 a8 : Nat → Int32} (hw : w < 2 ^ 31) (h3 : ∀ j, j < 78 → a3 j = nI (st j)) (hst : ∀ j, st j < 26) :
    ∀ (k s : Nat), k ≤ 9 → s < 26 → post (nI (ff_rd st k s w)) → ∃ fu, wX_read_8 post (nI w) fc fs fb a1 a2 a3 a4 a5 a6 a7 a8 fu (nI s) (nI k - 1) := by
  intro k
  induction k with
  | zero => exact fun s _ _ H => ⟨1, br_t ff_neg H⟩
  | succ k ih =>
    intro s hk hs H
    obtain ⟨f, hf⟩ := ih (st (3 * s + w / 3 ^ k % 3)) (by omega) (hst _) H
    have hp : 3 ^ k ≤ 3 ^ 9 := Nat.pow_le_pow_right (by omega) (by omega)
    have hp0 : 0 < 3 ^ k := Nat.pow_pos (by omega)
    have hd : w / 3 ^ k ≤ w := Nat.div_le_self _ _
    have e1 : nI w / nI (3 ^ k) = nI (w / 3 ^ k) := pk_div hw hp0 (by omega)
    have e2 : nI (w / 3 ^ k) - nI (w / 3 ^ k) / 3 * 3 = nI (w / 3 ^ k % 3) := pk_rem (a := w / 3 ^ k) (d := 3) (by omega) (by omega) (by omega)
    have hl : w / 3 ^ k % 3 < 3 := Nat.mod_lt _ (by omega)
    have e3 : (3 : Int32) * nI s + nI (w / 3 ^ k % 3) = nI (3 * s + w / 3 ^ k % 3) := ff_ix 3 _ _
    have c1 : (nI (3 * s + w / 3 ^ k % 3)).toNatClampNeg = 3 * s + w / 3 ^ k % 3 := nI_clamp (by omega)
    have t : a3 (3 * s + w / 3 ^ k % 3) = nI (st (3 * s + w / 3 ^ k % 3)) := h3 _ (by omega)
    refine ⟨f + 1, ?_⟩
    rw [nI_pred]
    refine pk_lt k 0 (fun z => absurd z (by omega)) (fun _ => ff_power k ⟨nI_ne0 hp0 (by omega), by decide, ?_⟩)
    rw [e1]
    refine nm_r e2 ?_
    rw [e3, c1]
    exact ⟨vp_in_nI (by omega) (by omega), nm_r t (nm_r (ff_m1 _) hf)⟩
theorem ff_read {post : Int32 → Prop} {fc fs fb x y z : Int32} {st : Nat → Nat} {a1 a2 a3 : Nat → Int32} {a4 a5 a6 : Nat → Int64} {a7 a8 : Nat → Int32} (s k w : Nat) (hk : k ≤ 9) (hs : s < 26) (hw : w < 2 ^ 31) (h3 : ∀ j, j < 78 → a3 j = nI (st j)) (hst : ∀ j, st j < 26)
    (H : post (nI (ff_rd st k s w))) (hx : x = nI s := by rfl) (hy : y = nI k := by rfl) (hz : z = nI w := by rfl) : wpX_read post (fc, fs, fb, a1, a2, a3, a4, a5, a6, a7, a8) x y z := by
  subst hx hy hz
  exact nm_e (ff_read8 hw h3 hst k s hk hs H)
/-- the word with the number left -/
def ff_ur (T : Nat → Nat → Nat) (st : Nat → Nat) : Nat → Nat → Nat → Nat → Nat
  | 0, _, _, code => code
  | k + 1, s, left, code =>
    if left < T k (st (3 * s)) then ff_ur T st k (st (3 * s)) left (3 * code)
    else if left - T k (st (3 * s)) < T k (st (3 * s + 1)) then ff_ur T st k (st (3 * s + 1)) (left - T k (st (3 * s))) (3 * code + 1)
    else ff_ur T st k (st (3 * s + 2)) (left - T k (st (3 * s)) - T k (st (3 * s + 1))) (3 * code + 2)
theorem ff_89 {post : Int32 → Prop} {J14 : Int32 → Int64 → Int32 → Int32 → Prop} {fc fs fb : Int32} {X : Int64} {s k code l : Nat} {st : Nat → Nat} {a1 a2 a3 : Nat → Int32} {a4 a5 a6 : Nat → Int64} {a7 a8 : Nat → Int32} (hs : s < 26) (hl : l < 3) (h3 : ∀ j, j < 78 → a3 j = nI (st j))
    (H : J14 (nI (st (3 * s + l))) X (nI (3 * code + l)) (nI k - 1)) : wX_unrank_89 post J14 (nI s) X (nI code) (nI k) (nI l) fc fs fb a1 a2 a3 a4 a5 a6 a7 a8 := by
  have e1 : (3 : Int32) * nI code + nI l = nI (3 * code + l) := ff_ix 3 _ _
  have e3 : (3 : Int32) * nI s + nI l = nI (3 * s + l) := ff_ix 3 _ _
  have c1 : (nI (3 * s + l)).toNatClampNeg = 3 * s + l := nI_clamp (by omega)
  have t : a3 (3 * s + l) = nI (st (3 * s + l)) := h3 _ (by omega)
  unfold wX_unrank_89
  rw [e1, e3, c1, t]
  exact nm_e ⟨vp_in_nI (by omega) (by omega), nm_e (nm_r (ff_m1 _) H)⟩
theorem ff_22s {post : Int32 → Prop} {J14 : Int32 → Int64 → Int32 → Int32 → Prop} {fc fs fb : Int32} {s k code l left n : Nat} {T : Nat → Nat → Nat} {st : Nat → Nat} {a1 a2 a3 : Nat → Int32} {a4 a5 a6 : Nat → Int64} {a7 a8 : Nat → Int32}
    (hs : s < 26) (hk : k ≤ 30) (hl : l < 2) (hL : left < 2 ^ 63) (h3 : ∀ j, j < 78 → a3 j = nI (st j)) (hst : ∀ j, st j < 26)
    (h4 : ∀ m, m ≤ 30 → ∀ j, j < 26 → a4 (26 * m + j) = lN (T m j)) (hT : ∀ m, m ≤ 30 → ∀ j, T m j < 2 ^ 63)
    (H0 : left < T k (st (3 * s + l)) → J14 (nI (st (3 * s + l))) (lN left) (nI (3 * code + l)) (nI k - 1))
    (H1 : ¬ left < T k (st (3 * s + l)) → wX_unrank_22 post J14 (nI s) (nI code) (nI k) fc fs fb a1 a2 a3 a4 a5 a6 a7 a8 n (lN (left - T k (st (3 * s + l)))) (nI (l + 1))) :
    wX_unrank_22 post J14 (nI s) (nI code) (nI k) fc fs fb a1 a2 a3 a4 a5 a6 a7 a8 (n + 1) (lN left) (nI l) := by
  have e3 : (3 : Int32) * nI s + nI l = nI (3 * s + l) := ff_ix 3 _ _
  have c1 : (nI (3 * s + l)).toNatClampNeg = 3 * s + l := nI_clamp (by omega)
  have t : a3 (3 * s + l) = nI (st (3 * s + l)) := h3 _ (by omega)
  have hb := hst (3 * s + l)
  have e4 : (26 : Int32) * nI k + nI (st (3 * s + l)) = nI (26 * k + st (3 * s + l)) := ff_ix 26 _ _
  have c4 : (nI (26 * k + st (3 * s + l))).toNatClampNeg = 26 * k + st (3 * s + l) := nI_clamp (by omega)
  have t4 : a4 (26 * k + st (3 * s + l)) = lN (T k (st (3 * s + l))) := h4 k hk _ hb
  have hTk := hT k hk (st (3 * s + l))
  unfold wX_unrank_22
  rw [e3, c1, t, e4, c4, t4]
  refine pk_le 2 l (fun z => absurd z (by omega)) (fun _ => ⟨vp_in_nI (by omega) (by omega), vp_in_nI (by omega) (by omega), ek_if (pk_lLT hL hTk) (fun z => ?_) (fun z => ⟨vp_in_nI (by omega) (by omega), vp_in_nI (by omega) (by omega), nm_r (lN_sub (by omega)) (nm_r (nI_1 l) (H1 z))⟩)⟩)
  exact ff_89 hs (by omega) h3 (H0 z)
theorem ff_unr14 {post : Int32 → Prop} {fc fs fb : Int32} {T : Nat → Nat → Nat} {st : Nat → Nat} {a1 a2 a3 : Nat → Int32} {a4 a5 a6 : Nat → Int64} {a7 a8 : Nat → Int32}
    (h3 : ∀ j, j < 78 → a3 j = nI (st j)) (hst : ∀ j, st j < 26)
    (h4 : ∀ m, m ≤ 30 → ∀ j, j < 26 → a4 (26 * m + j) = lN (T m j)) (hT : ∀ m, m ≤ 30 → ∀ j, T m j < 2 ^ 63) :
    ∀ (k s left code : Nat), k ≤ 30 → s < 26 → left < 2 ^ 63 → post (nI (ff_ur T st k s left code)) → ∃ fu, wX_unrank_14 post fc fs fb a1 a2 a3 a4 a5 a6 a7 a8 fu (nI s) (lN left) (nI code) (nI k - 1) := by
  intro k
  induction k with
  | zero => exact fun s left code _ _ _ H => ⟨1, br_t ff_neg H⟩
  | succ k ih =>
    intro s left code hk hs hL H
    unfold ff_ur at H
    have R : ∃ f, ∃ fu, wX_unrank_22 post (wX_unrank_14 post fc fs fb a1 a2 a3 a4 a5 a6 a7 a8 f) (nI s) (nI code) (nI k) fc fs fb a1 a2 a3 a4 a5 a6 a7 a8 fu (lN left) (nI 0) := by
      by_cases z0 : left < T k (st (3 * s))
      · rw [if_pos z0] at H
        obtain ⟨f, hf⟩ := ih _ _ _ (by omega) (hst _) hL H
        exact ⟨f, 1, ff_22s (n := 0) (l := 0) hs (by omega) (by omega) hL h3 hst h4 hT (fun _ => hf) (fun z => absurd z0 z)⟩
      · rw [if_neg z0] at H
        by_cases z1 : left - T k (st (3 * s)) < T k (st (3 * s + 1))
        · rw [if_pos z1] at H
          obtain ⟨f, hf⟩ := ih _ _ _ (by omega) (hst _) (by omega) H
          exact ⟨f, 2, ff_22s (n := 1) (l := 0) hs (by omega) (by omega) hL h3 hst h4 hT (fun z => absurd z z0) (fun _ =>
            ff_22s (n := 0) (l := 1) hs (by omega) (by omega) (by omega) h3 hst h4 hT (fun _ => hf) (fun z => absurd z1 z))⟩
        · rw [if_neg z1] at H
          obtain ⟨f, hf⟩ := ih _ _ _ (by omega) (hst _) (by omega) H
          exact ⟨f, 3, ff_22s (n := 2) (l := 0) hs (by omega) (by omega) hL h3 hst h4 hT (fun z => absurd z z0) (fun _ =>
            ff_22s (n := 1) (l := 1) hs (by omega) (by omega) (by omega) h3 hst h4 hT (fun z => absurd z z1) (fun _ =>
              pk_le 2 2 (fun _ => ff_89 (l := 2) hs (by omega) h3 hf) (fun z => absurd z (by omega))))⟩
    obtain ⟨f, fu, hf⟩ := R
    refine ⟨f + 1, ?_⟩
    rw [nI_pred]
    exact pk_lt k 0 (fun z => absurd z (by omega)) (fun _ => ⟨fu, hf⟩)
theorem ff_unrank {post : Int32 → Prop} {fc fs fb x y : Int32} {T : Nat → Nat → Nat} {st : Nat → Nat} {a1 a2 a3 : Nat → Int32} {a4 a5 a6 : Nat → Int64} {a7 a8 : Nat → Int32} (k i : Nat) (hk : k ≤ 30) (hi : i < 2 ^ 31)
    (h3 : ∀ j, j < 78 → a3 j = nI (st j)) (hst : ∀ j, st j < 26)
    (h4 : ∀ m, m ≤ 30 → ∀ j, j < 26 → a4 (26 * m + j) = lN (T m j)) (hT : ∀ m, m ≤ 30 → ∀ j, T m j < 2 ^ 63)
    (H : post (nI (ff_ur T st k 0 i 0))) (hx : x = nI k := by rfl) (hy : y = nI i := by rfl) : wpX_unrank post (fc, fs, fb, a1, a2, a3, a4, a5, a6, a7, a8) x y := by
  subst hx hy
  have e : (nI i).toInt64 = lN i := nI_l hi
  unfold wpX_unrank
  dsimp only
  rw [e]
  exact nm_e (ff_unr14 h3 hst h4 hT k 0 i 0 hk (by omega) (by omega) H)
end
section
theorem ff_isLen {post : Int32 → Prop} {x : Int32} (n : Nat) (hn : n ≤ 9) (H : post 1) (hx : x = nI n := by rfl) : wpX_isLength post () x := by
  subst hx
  exact pk_lt n 0 (fun z => absurd z (by omega)) (fun _ => pk_lt 9 n (fun z => absurd z (by omega)) (fun _ => H))
theorem ff_reflect {post : Int32 → Prop} {x : Int32} (w : Nat) (hw : w < 3) (H : post (nI (3 * w + w))) (hx : x = nI w := by rfl) : wpX_reflect post () x 1 2 := by
  subst hx
  have e1 : nI w - nI w / 3 * 3 = nI w := by
    refine (pk_rem (a := w) (d := 3) (by omega) (by omega) (by omega)).trans ?_
    exact congrArg nI (by omega)
  have e2 : (3 : Int32) * nI w + nI w = nI (3 * w + w) := ff_ix 3 w w
  refine br_f (by decide) (nm_r (e' := nI 1) rfl ⟨2, pk_le 1 0 (fun z => absurd z (by omega)) (fun _ => ⟨by decide, ?_⟩)⟩)
  rw [e1, e2]
  exact nm_e ⟨by decide, nm_e (nm_r (e' := nI 0) rfl (pk_le 0 0 (fun _ => H) (fun z => absurd z (by omega))))⟩
theorem ff_ur1_lt (T : Nat → Nat → Nat) (st : Nat → Nat) (i : Nat) : ff_ur T st 1 0 i 0 < 3 := by
  unfold ff_ur
  split
  · exact Nat.lt_of_lt_of_eq (Nat.succ_pos 2) rfl
  · split
    · exact Nat.lt_of_lt_of_eq (Nat.succ_lt_succ (Nat.succ_pos 1)) rfl
    · exact Nat.lt_of_lt_of_eq (Nat.lt_succ_self 2) rfl
/-- one word and its mirror -/
def ff_mi (T : Nat → Nat → Nat) (st : Nat → Nat) (i : Nat) : Nat := if ff_rd st 2 0 (3 * ff_ur T st 1 0 i 0 + ff_ur T st 1 0 i 0) = 25 then 0 else 1
theorem ff_mirrored {post : Int32 → St2 → Prop} {q : Nat} {T : Nat → Nat → Nat} {st : Nat → Nat} {a1 a2 a3 : Nat → Int32} {a4 a5 a6 : Nat → Int64} {a7 a8 : Nat → Int32}
    (h3 : ∀ j, j < 78 → a3 j = nI (st j)) (hst : ∀ j, st j < 26)
    (h4 : ∀ m, m ≤ 30 → ∀ j, j < 26 → a4 (26 * m + j) = lN (T m j)) (hT : ∀ m, m ≤ 30 → ∀ j, T m j < 2 ^ 63) (hm : T 1 0 < 2 ^ 31)
    (H : post (nI (ff_ps (ff_mi T st) (T 1 0))) (1, nI q, 1, a1, a2, a3, a4, a5, a6, a7, a8)) :
    wpX_mirrored post (1, nI q, 1, a1, a2, a3, a4, a5, a6, a7, a8) 2 := by
  have t : (a4 ((26 : Int32) * nI 1).toNatClampNeg).toInt32 = nI (T 1 0) := by
    have c1 : ((26 : Int32) * nI 1).toNatClampNeg = 26 * 1 + 0 := by decide
    rw [c1, h4 1 (by omega) 0 (by omega)]
    exact lN_i _
  unfold wpX_mirrored
  dsimp only
  refine ff_isLen 2 (by omega) (br_f (by decide) ?_)
  refine ff_built (nm_r (e' := nI 1) (by decide) ⟨pk_in 26 806 (by omega), nm_r t ?_⟩)
  refine pk_loop (fun n i s => wX_mirrored_36 post 2 (nI 1) (nI (T 1 0)) 1 (nI q) 1 a1 a2 a3 a4 a5 a6 a7 a8 n s (nI i)) (fun i s => s = nI (ff_ps (ff_mi T st) i)) (T 1 0) 0 0 (by omega) rfl ?_ ?_
  · intro n s h
    refine pk_le (T 1 0) (T 1 0) (fun _ => ?_) (fun z => absurd z (by omega))
    rw [h]
    exact H
  · intro n i s hi h hw
    have hu := ff_ur1_lt T st i
    have hr := ff_rd_lt hst 2 0 (3 * ff_ur T st 1 0 i 0 + ff_ur T st 1 0 i 0) (by omega)
    refine pk_le (T 1 0) i (fun z => absurd z (by omega)) (fun _ => ff_unrank 1 i (by omega) (by omega) h3 hst h4 hT (ff_reflect (ff_ur T st 1 0 i 0) hu (ff_read 0 2 (3 * ff_ur T st 1 0 i 0 + ff_ur T st 1 0 i 0) (by omega) (by omega) (by omega) h3 hst ?_)))
    refine pk_eq (ff_rd st 2 0 (3 * ff_ur T st 1 0 i 0 + ff_ur T st 1 0 i 0)) 25 (fun z => nm_e (nm_r (nI_1 i) (hw _ ?_))) (fun z => nm_e (nm_r (nI_1 i) (hw _ ?_)))
    · rw [h]
      have e : ff_mi T st i = 0 := if_pos z
      show nI (ff_ps (ff_mi T st) i) + nI 0 = nI (ff_ps (ff_mi T st) i + ff_mi T st i)
      rw [nI_add, e]
    · rw [h]
      have e : ff_mi T st i = 1 := if_neg z
      show nI (ff_ps (ff_mi T st) i) + nI 1 = nI (ff_ps (ff_mi T st) i + ff_mi T st i)
      rw [nI_add, e]
theorem ff_word {post : Int32 → St2 → Prop} {q : Nat} {x : Int32} {T : Nat → Nat → Nat} {st : Nat → Nat} {a1 a2 a3 : Nat → Int32} {a4 a5 a6 : Nat → Int64} {a7 a8 : Nat → Int32} (i : Nat)
    (h3 : ∀ j, j < 78 → a3 j = nI (st j)) (hst : ∀ j, st j < 26)
    (h4 : ∀ m, m ≤ 30 → ∀ j, j < 26 → a4 (26 * m + j) = lN (T m j)) (hT : ∀ m, m ≤ 30 → ∀ j, T m j < 2 ^ 63) (hi : i < 2 ^ 31) (hm : i < T 2 0)
    (H : post (nI (ff_ur T st 2 0 i 0)) (1, nI q, 1, a1, a2, a3, a4, a5, a6, a7, a8)) (hx : x = nI i := by rfl) :
    wpX_word post (1, nI q, 1, a1, a2, a3, a4, a5, a6, a7, a8) 2 x := by
  subst hx
  have c1 : ((26 : Int32) * 2).toNatClampNeg = 26 * 2 + 0 := by decide
  have t : a4 (26 * 2 + 0) = lN (T 2 0) := h4 2 (by omega) 0 (by omega)
  have e : (nI i).toInt64 = lN i := nI_l hi
  unfold wpX_word
  dsimp only
  refine ff_isLen 2 (by omega) (br_f (by decide) ?_)
  refine ff_built (pk_lt i 0 (fun z => absurd z (by omega)) (fun _ => ⟨pk_in 52 806 (by omega), br_t ?_ ?_⟩))
  · show (nI i).toInt64 < a4 ((26 : Int32) * 2).toNatClampNeg
    rw [c1, t, e]
    exact (pk_lLT (by omega) (hT 2 (by omega) 0)).mpr hm
  · exact ff_unrank 2 i (by omega) hi h3 hst h4 hT H
/-- what stands in 'then' behind k steps of one turn from the first state -/
def ff_th (st : Nat → Nat) : Nat → Nat → Nat
  | 0, _ => 0
  | k + 1, j => if j = st k then ff_th st k j + (if k / 3 = 0 then 1 else 0) else ff_th st k j
/-- 'now' behind the turn -/
def ff_nw (q : Nat) (st : Nat → Nat) (j : Nat) : Nat := if j = 25 then 0 else ff_th st (3 * q) j
theorem ff_169 {post : Int64 → St2 → Prop} {fc fb : Int32} {q c : Nat} {st nw t0 : Nat → Nat} {a1 a2 a3 : Nat → Int32} {a4 a5 a6 : Nat → Int64} {a7 a8 : Nat → Int32} (hq : q ≤ 25) (hc : c < 3)
    (h3 : ∀ j, j < 78 → a3 j = nI (st j)) (hst : ∀ j, st j < 26) (h4 : ∀ j, j < 26 → a4 j = lN (t0 j)) (h5 : ∀ j, j < 26 → a5 j = lN (nw j))
    (H : post (lN (ff_ps (fun s => nw s * t0 (st (3 * s + c))) q)) (fc, nI q, fb, a1, a2, a3, a4, a5, a6, a7, a8)) :
    ∃ fu, wX_through_169 post (nI (3 + c)) 0 (nI 1) fc (nI q) fb a1 a2 a3 a4 a5 a6 a7 a8 fu 0 0 := by
  refine pk_loop (fun n i s => wX_through_169 post (nI (3 + c)) 0 (nI 1) fc (nI q) fb a1 a2 a3 a4 a5 a6 a7 a8 n s (nI i)) (fun i s => s = lN (ff_ps (fun s => nw s * t0 (st (3 * s + c))) i)) q 0 0 (by omega) rfl ?_ ?_
  · intro n s h
    refine pk_le q q (fun _ => ?_) (fun z => absurd z (by omega))
    rw [h]
    exact H
  · intro n i s hi h hw
    have hb := hst (3 * i + c)
    have er : ff_rd st 1 i c = st (3 * i + c) := by
      show st (3 * i + c / 3 ^ 0 % 3) = st (3 * i + c)
      rw [show c / 3 ^ 0 % 3 = c by rw [Nat.pow_zero, Nat.div_one]; omega]
    have e0 : nI (3 + c) - nI (3 ^ 1) = nI c := by rw [pk_sub (by omega)]; exact congrArg nI (by omega)
    have e4 : (26 : Int32) * 0 + nI (st (3 * i + c)) = nI (st (3 * i + c)) := (ff_ix 26 0 _).trans (congrArg nI (by omega))
    have c1 : (nI i).toNatClampNeg = i := nI_clamp (by omega)
    have c4 : (nI (st (3 * i + c))).toNatClampNeg = st (3 * i + c) := nI_clamp (by omega)
    refine pk_le q i (fun z => absurd z (by omega)) (fun _ => ff_power 1 (ff_read i 1 c (by omega) (by omega) (by omega) h3 hst ?_ rfl rfl e0))
    rw [er, e4, c1, c4, h4 _ hb, h5 i (by omega), lN_mul, h, lN_add]
    exact ⟨vp_in_nI (by omega) (by omega), vp_in_nI (by omega) (by omega), nm_e (nm_r (nI_1 i) (hw _ rfl))⟩
theorem ff_113 {post : Int64 → St2 → Prop} {J36 : Int32 → (Nat → Int32) → (Nat → Int32) → (Nat → Int32) → (Nat → Int64) → (Nat → Int64) → (Nat → Int64) → (Nat → Int32) → (Nat → Int32) → Prop} {x1 x2 x3 fc fs fb : Int32} {th : Nat → Nat}
    {a1 a2 a3 : Nat → Int32} {a4 a5 a6 : Nat → Int64} {a7 a8 : Nat → Int32} (h6 : ∀ j, j < 26 → a6 j = lN (th j))
    (H : ∀ b5 : Nat → Int64, (∀ j, j < 26 → b5 j = lN (if j = 25 then 0 else th j)) → J36 (nI 1) a1 a2 a3 a4 b5 a6 a7 a8) :
    ∃ fu, wX_through_113 post J36 x1 x2 x3 (nI 0) fc fs fb fu 0 a1 a2 a3 a4 a5 a6 a7 a8 := by
  refine pk_loop (fun n i s => wX_through_113 post J36 x1 x2 x3 (nI 0) fc fs fb n (nI i) a1 a2 a3 a4 s a6 a7 a8) (fun i s => ∀ j, j < i → s j = lN (if j = 25 then 0 else th j)) 26 0 a5 (by omega) (fun j hj => absurd hj (by omega)) ?_ ?_
  · intro n s h
    exact pk_le 26 26 (fun _ => nm_r (e' := nI 1) rfl (H s h)) (fun z => absurd z (by omega))
  · intro n i s hi h hw
    have c1 : (nI i).toNatClampNeg = i := nI_clamp (by omega)
    show wX_through_113 post J36 x1 x2 x3 (nI 0) fc fs fb (n + 1) (nI i) a1 a2 a3 a4 s a6 a7 a8
    unfold wX_through_113
    rw [c1]
    refine pk_le 26 i (fun z => absurd z (by omega)) (fun _ => pk_eq i 25 (fun z => ⟨vp_in_nI (by omega) (by omega), nm_e (nm_r (nI_1 i) (hw _ (fun j hj => ?_)))⟩) (fun z => ⟨vp_in_nI (by omega) (by omega), vp_in_nI (by omega) (by omega), nm_e (nm_r (nI_1 i) (hw _ (fun j hj => ?_)))⟩))
    · by_cases e : j = i
      · rw [e, pk_uLs, if_pos z]
        rfl
      · rw [pk_uLn e]
        exact h j (by omega)
    · by_cases e : j = i
      · rw [e, pk_uLs, if_neg z]
        exact h6 i (by omega)
      · rw [pk_uLn e]
        exact h j (by omega)
theorem ff_69 {post : Int64 → St2 → Prop} {J36 : Int32 → (Nat → Int32) → (Nat → Int32) → (Nat → Int32) → (Nat → Int64) → (Nat → Int64) → (Nat → Int64) → (Nat → Int32) → (Nat → Int32) → Prop} {x1 x2 x3 fc fb : Int32} {q : Nat} {st : Nat → Nat}
    {a1 a2 a3 : Nat → Int32} {a4 a5 a6 : Nat → Int64} {a7 a8 : Nat → Int32} (hq : q ≤ 25) (h3 : ∀ j, j < 78 → a3 j = nI (st j)) (hst : ∀ j, st j < 26)
    (h5 : ∀ j, j < 26 → a5 j = lN (if j = 0 then 1 else 0)) (h6 : ∀ j, j < 26 → a6 j = 0)
    (H : ∀ b5 b6 : Nat → Int64, (∀ j, j < 26 → b5 j = lN (ff_nw q st j)) → J36 (nI 1) a1 a2 a3 a4 b5 b6 a7 a8) :
    ∃ fu, wX_through_69 post J36 x1 x2 x3 (nI 0) fc (nI q) fb fu 0 a1 a2 a3 a4 a5 a6 a7 a8 := by
  have eq3 : (3 : Int32) * nI q = nI (3 * q) := pk_mul 3 q
  refine pk_loop (fun n i s => wX_through_69 post J36 x1 x2 x3 (nI 0) fc (nI q) fb n (nI i) a1 a2 a3 a4 a5 s a7 a8) (fun i s => ∀ j, j < 26 → s j = lN (ff_th st i j)) (3 * q) 0 a6 (by omega) (fun j hj => h6 j hj) ?_ ?_
  · intro n s h
    exact pk_le (3 * q) (3 * q) (fun _ => ff_113 (th := ff_th st (3 * q)) h (fun b5 hb => H b5 s hb)) (fun z => absurd z (by omega)) eq3
  · intro n i s hi h hw
    have hb := hst i
    have c1 : (nI i).toNatClampNeg = i := nI_clamp (by omega)
    have t : a3 i = nI (st i) := h3 i (by omega)
    have c2 : (nI (st i)).toNatClampNeg = st i := nI_clamp (by omega)
    have e4 : nI i / (3 : Int32) = nI (i / 3) := pk_div (a := i) (d := 3) (by omega) (by omega) (by omega)
    have c3 : (nI (i / 3)).toNatClampNeg = i / 3 := nI_clamp (by omega)
    show wX_through_69 post J36 x1 x2 x3 (nI 0) fc (nI q) fb (n + 1) (nI i) a1 a2 a3 a4 a5 s a7 a8
    unfold wX_through_69
    rw [eq3, c1, t, c2, e4, c3, h _ hb, h5 (i / 3) (by omega), lN_add]
    refine pk_le (3 * q) i (fun z => absurd z (by omega)) (fun _ => ⟨vp_in_nI (by omega) (by omega), vp_in_nI (by omega) (by omega), by decide, vp_in_nI (by omega) (by omega), vp_in_nI (by omega) (by omega), nm_e (nm_r (nI_1 i) (hw _ (fun j hj => ?_)))⟩)
    by_cases e : j = st i
    · rw [e, pk_uLs]
      exact congrArg lN (if_pos rfl).symm
    · rw [pk_uLn e, h j hj]
      exact congrArg lN (if_neg e).symm
theorem ff_through {post : Int64 → St2 → Prop} {fc fb x y : Int32} {q c : Nat} {st t0 : Nat → Nat} {a1 a2 a3 : Nat → Int32} {a4 a5 a6 : Nat → Int64} {a7 a8 : Nat → Int32} (hq : q ≤ 25) (hc : c < 3)
    (h3 : ∀ j, j < 78 → a3 j = nI (st j)) (hst : ∀ j, st j < 26) (h4 : ∀ j, j < 26 → a4 j = lN (t0 j))
    (H : ∀ b5 b6 : Nat → Int64, post (lN (ff_ps (fun s => ff_nw q st s * t0 (st (3 * s + c))) q)) (fc, nI q, fb, a1, a2, a3, a4, b5, b6, a7, a8)) (hx : x = nI 1 := by rfl) (hy : y = nI (3 + c) := by rfl) :
    wpX_through post (fc, nI q, fb, a1, a2, a3, a4, a5, a6, a7, a8) x y 0 := by
  subst hx hy
  have R : ∀ b5 : Nat → Int64, (∀ j, j < 26 → b5 j = lN (if j = 0 then 1 else 0)) → ∃ fu, wX_through_36 post (nI 1) (nI (3 + c)) 0 fc (nI q) fb fu 0 a1 a2 a3 a4 b5 a6 a7 a8 := by
    intro b5 hb5
    refine ⟨2, pk_le 1 0 (fun z => absurd z (by omega)) (fun _ => ?_)⟩
    refine pk_loop (fun n i s => wX_through_45 post (wX_through_36 post (nI 1) (nI (3 + c)) 0 fc (nI q) fb 1) (nI 1) (nI (3 + c)) 0 (nI 0) fc (nI q) fb n (nI i) a1 a2 a3 a4 b5 s a7 a8) (fun i s => ∀ j, j < i → s j = 0) 26 0 a6 (by omega) (fun j hj => absurd hj (by omega)) ?_ ?_
    · intro n s h
      refine pk_le 26 26 (fun _ => ff_69 (st := st) hq h3 hst hb5 h (fun c5 c6 hc5 => ?_)) (fun z => absurd z (by omega))
      exact pk_le 1 1 (fun _ => ff_size1 (by omega) (ff_169 (st := st) hq hc h3 hst h4 hc5 (H c5 c6))) (fun z => absurd z (by omega))
    · intro n i s hi h hw
      have c1 : (nI i).toNatClampNeg = i := nI_clamp (by omega)
      refine pk_le 26 i (fun z => absurd z (by omega)) (fun _ => ⟨pk_in i 26 (by omega), nm_e (nm_r (nI_1 i) (hw _ (fun j hj => ?_)))⟩)
      rw [c1]
      by_cases e : j = i
      · rw [e, pk_uLs]
      · rw [pk_uLn e]
        exact h j (by omega)
  refine pk_loop (fun n i s => wX_through_3 post (nI 1) (nI (3 + c)) 0 fc (nI q) fb n (nI i) a1 a2 a3 a4 s a6 a7 a8) (fun i s => ∀ j, j < i → s j = lN (if j = 0 then 1 else 0)) 26 0 a5 (by omega) (fun j hj => absurd hj (by omega)) ?_ ?_
  · intro n s h
    exact pk_le 26 26 (fun _ => R s h) (fun z => absurd z (by omega))
  · intro n i s hi h hw
    have c1 : (nI i).toNatClampNeg = i := nI_clamp (by omega)
    refine pk_le 26 i (fun z => absurd z (by omega)) (fun _ => pk_eq i 0 (fun z => ⟨pk_in i 26 (by omega), nm_e (nm_r (nI_1 i) (hw _ (fun j hj => ?_)))⟩) (fun z => ⟨pk_in i 26 (by omega), nm_e (nm_r (nI_1 i) (hw _ (fun j hj => ?_)))⟩))
    · rw [c1]
      by_cases e : j = i
      · rw [e, pk_uLs, if_pos z]
        rfl
      · rw [pk_uLn e]
        exact h j (by omega)
    · rw [c1]
      by_cases e : j = i
      · rw [e, pk_uLs, if_neg z]
        rfl
      · rw [pk_uLn e]
        exact h j (by omega)
theorem ff_ending {post : Int32 → St2 → Prop} {x : Int32} {q c : Nat} {st t0 : Nat → Nat} {a1 a2 a3 : Nat → Int32} {a4 a5 a6 : Nat → Int64} {a7 a8 : Nat → Int32} (hq : q ≤ 25) (hc : c < 3)
    (h3 : ∀ j, j < 78 → a3 j = nI (st j)) (hst : ∀ j, st j < 26) (h4 : ∀ j, j < 26 → a4 j = lN (t0 j))
    (H : ∀ b5 b6 : Nat → Int64, post (nI (ff_ps (fun s => ff_nw q st s * t0 (st (3 * s + c))) q)) (1, nI q, 1, a1, a2, a3, a4, b5, b6, a7, a8)) (hx : x = nI (3 + c) := by rfl) :
    wpX_ending post (1, nI q, 1, a1, a2, a3, a4, a5, a6, a7, a8) 2 x := by
  subst hx
  unfold wpX_ending
  dsimp only
  refine ff_isLen 2 (by omega) (br_f (by decide) ?_)
  refine ff_piece1 (by omega) (by omega) (br_f (by decide) ?_)
  refine ff_built ?_
  refine ff_size1 (by omega) (pk_le 1 2 (fun _ => ?_) (fun z => absurd z (by omega)))
  refine ff_through (st := st) hq hc h3 hst h4 (fun b5 b6 => ?_)
  show post (lN _).toInt32 _
  rw [lN_i]
  exact H b5 b6
/-- a piece that stands on the list -/
theorem ff_again {post : Int32 → St0 → Prop} {x fs fb : Int32} {a1 a2 a3 : Nat → Int32} {a4 a5 a6 : Nat → Int64} {a7 a8 : Nat → Int32} (h1 : a1 0 = x) (hp : ∀ ψ : Int32 → Prop, ψ 1 → wpX_isPiece ψ () x) (H : post (-2) ()) :
    wpX_forbid_2 post (1, fs, fb, a1, a2, a3, a4, a5, a6, a7, a8) x := by
  unfold wpX_forbid_2
  dsimp only
  refine hp _ (br_f (by decide) ?_)
  exact ff_place1 (fun _ => br_f (by decide) H) (fun z => absurd h1 z)
/-- the first piece -/
theorem ff_first {post : Int32 → St2 → Prop} {x fs fb : Int32} {a1 a2 a3 : Nat → Int32} {a4 a5 a6 : Nat → Int64} {a7 a8 : Nat → Int32} (hp : ∀ ψ : Int32 → Prop, ψ 1 → wpX_isPiece ψ () x) (H : post 1 (1, fs, 0, upd a1 0 x, a2, a3, a4, a5, a6, a7, a8)) :
    wpX_forbid post (0, fs, fb, a1, a2, a3, a4, a5, a6, a7, a8) x := by
  unfold wpX_forbid
  dsimp only
  refine hp _ (br_f (by decide) ?_)
  exact ff_place0 (br_t (by decide) (br_f (by decide) ⟨pk_in 0 6 (by omega), nm_e (nm_r (e' := (1 : Int32)) rfl H)⟩))
end
section
theorem ff_T_le (q : Nat) (st : Nat → Nat) : ∀ n s, ff_T q st n s ≤ 3 ^ n := by
  intro n
  induction n with
  | zero =>
    intro s
    unfold ff_T
    split <;> omega
  | succ n ih =>
    intro s
    by_cases h : s < q
    · have e : ff_T q st (n + 1) s = 0 + ff_T q st n (st (3 * s + 0)) + ff_T q st n (st (3 * s + 1)) + ff_T q st n (st (3 * s + 2)) := if_pos h
      have i0 := ih (st (3 * s + 0))
      have i1 := ih (st (3 * s + 1))
      have i2 := ih (st (3 * s + 2))
      rw [e, Nat.pow_succ]
      omega
    · rw [ff_T_dead h]
      exact Nat.zero_le _
theorem ff_T_63 (q : Nat) (st : Nat → Nat) : ∀ m, m ≤ 30 → ∀ j, ff_T q st m j < 2 ^ 63 := by
  intro m hm j
  have h1 := ff_T_le q st m j
  have h2 : 3 ^ m ≤ 3 ^ 30 := Nat.pow_le_pow_right (by omega) hm
  have h3 : 3 ^ 30 < 2 ^ 63 := by decide
  omega
theorem ff_one (c : Nat) (hc : c < 3) : ∀ n, ff_T 1 (ff_s1 c) n 0 = 2 ^ n := by
  intro n
  induction n with
  | zero => rfl
  | succ n ih =>
    have e : ff_T 1 (ff_s1 c) (n + 1) 0 = 0 + ff_T 1 (ff_s1 c) n (ff_s1 c 0) + ff_T 1 (ff_s1 c) n (ff_s1 c 1) + ff_T 1 (ff_s1 c) n (ff_s1 c 2) := if_pos (by omega)
    have d : ff_T 1 (ff_s1 c) n 25 = 0 := ff_T_dead (by omega) n
    rw [e, Nat.pow_succ]
    rcases (show c = 0 ∨ c = 1 ∨ c = 2 by omega) with h | h | h
    · subst h
      rw [show ff_s1 0 0 = 25 from rfl, show ff_s1 0 1 = 0 from rfl, show ff_s1 0 2 = 0 from rfl, d, ih]
      omega
    · subst h
      rw [show ff_s1 1 0 = 0 from rfl, show ff_s1 1 1 = 25 from rfl, show ff_s1 1 2 = 0 from rfl, d, ih]
      omega
    · subst h
      rw [show ff_s1 2 0 = 0 from rfl, show ff_s1 2 1 = 0 from rfl, show ff_s1 2 2 = 25 from rfl, d, ih]
      omega
theorem ff_two (c d : Nat) (hc : c < 3) (n : Nat) : ff_T 2 (ff_s2 c d) (n + 1) 0 = 2 * ff_T 2 (ff_s2 c d) n 0 + ff_T 2 (ff_s2 c d) n 1 := by
  have e : ff_T 2 (ff_s2 c d) (n + 1) 0 = 0 + ff_T 2 (ff_s2 c d) n (ff_s2 c d 0) + ff_T 2 (ff_s2 c d) n (ff_s2 c d 1) + ff_T 2 (ff_s2 c d) n (ff_s2 c d 2) := if_pos (by omega)
  rw [e]
  rcases (show c = 0 ∨ c = 1 ∨ c = 2 by omega) with h | h | h
  · subst h
    rw [show ff_s2 0 d 0 = 1 from rfl, show ff_s2 0 d 1 = 0 from rfl, show ff_s2 0 d 2 = 0 from rfl]
    omega
  · subst h
    rw [show ff_s2 1 d 0 = 0 from rfl, show ff_s2 1 d 1 = 1 from rfl, show ff_s2 1 d 2 = 0 from rfl]
    omega
  · subst h
    rw [show ff_s2 2 d 0 = 0 from rfl, show ff_s2 2 d 1 = 0 from rfl, show ff_s2 2 d 2 = 1 from rfl]
    omega
theorem ff_two_ge (c d : Nat) (hc : c < 3) : ∀ n, 2 ^ (n + 1) + 1 ≤ ff_T 2 (ff_s2 c d) (n + 1) 0 := by
  intro n
  induction n with
  | zero =>
    rw [ff_two c d hc 0]
    exact Nat.le_refl 3
  | succ n ih =>
    rw [ff_two c d hc (n + 1), Nat.pow_succ]
    omega
/-- the small answers, one letter forbidden -/
theorem ff_f1 : ∀ c, c < 3 → ff_ps (fun s => ff_nw 1 (ff_s1 c) s * ff_T 1 (ff_s1 c) 0 (ff_s1 c (3 * s + c))) 1 = 0 := by decide +kernel
theorem ff_f2 : ∀ c, c < 3 → ff_ps (ff_mi (ff_T 1 (ff_s1 c)) (ff_s1 c)) (ff_T 1 (ff_s1 c) 1 0) = 2 := by decide +kernel
theorem ff_f3 : ∀ c, c < 3 → ff_ur (ff_T 1 (ff_s1 c)) (ff_s1 c) 2 0 3 0 = if c = 2 then 4 else 8 := by decide +kernel
/-- the small answers, one pair forbidden -/
theorem ff_g0 : ∀ c, c < 3 → ∀ d, d < 3 → ff_T 2 (ff_s2 c d) 2 0 = 8 ∧ ff_T 2 (ff_s2 c d) 3 0 = if c = d then 22 else 21 := by decide +kernel
theorem ff_g1 : ∀ c, c < 3 → ∀ d, d < 3 → ff_ps (fun s => ff_nw 2 (ff_s2 c d) s * ff_T 2 (ff_s2 c d) 0 (ff_s2 c d (3 * s + c))) 2 = if c = d then 2 else 3 := by decide +kernel
theorem ff_g2 : ∀ c, c < 3 → ∀ d, d < 3 → ff_ps (ff_mi (ff_T 2 (ff_s2 c d)) (ff_s2 c d)) (ff_T 2 (ff_s2 c d) 1 0) = if c = d then 2 else 3 := by decide +kernel
theorem ff_g3 : ∀ c, c < 3 → ∀ d, d < 3 → ff_ur (ff_T 2 (ff_s2 c d)) (ff_s2 c d) 2 0 7 0 = if c = 2 ∧ d = 2 then 7 else 8 := by decide +kernel
end
section
/-- one letter forbidden: behind the first count -/
theorem ff_rest1 {mc ms kc ks c d : Nat} {z : Int32} {a1 a2 a3 : Nat → Int32} {a4 a5 a6 : Nat → Int64} {a7 a8 : Nat → Int32} (hc : c < 3) (h1 : a1 0 = nI (3 + c))
    (h3 : ∀ j, j < 78 → a3 j = nI (ff_s1 c j)) (h4 : ∀ m, m ≤ 30 → ∀ j, j < 26 → a4 (26 * m + j) = lN (ff_T 1 (ff_s1 c) m j)) :
    wL_lawOf_124 (fun r _ => r = 1) mc ms (nI c) (nI d) 1 z 8 4 (lN (ff_T 1 (ff_s1 c) 2 0)) kc ks 1 (nI 1) 1 a1 a2 a3 a4 a5 a6 a7 a8 := by
  have hst := ff_s1_lt c
  have hT := ff_T_63 1 (ff_s1 c)
  have e3 : (3 : Int32) + nI c = nI (3 + c) := nI_add 3 c
  refine br_t ?_ (ff_count 3 (by omega) h4 (br_t ?_ (ff_count 30 (by omega) h4 (br_f (by decide) (br_t ?_ (br_f (by decide) (ff_count 30 (by omega) h4 (br_t ?_ (ff_longest ?_ (br_t rfl ?_)))))))))) 
  · rw [ff_one c hc]
    decide
  · rw [ff_one c hc]
    decide
  · rw [ff_one c hc]
    decide
  · rw [ff_one c hc]
    decide
  · have t := h4 9 (by omega) 0 (by omega)
    rw [ff_one c hc] at t
    rw [show 234 = 26 * 9 + 0 from rfl, t]
    decide
  refine ff_ending (c := c) (st := ff_s1 c) (t0 := ff_T 1 (ff_s1 c) 0) (by omega) hc h3 hst (fun j hj => ?_) (fun b5 b6 => br_f (by decide) (br_t ?_ (br_f (by decide) ?_))) e3
  · have t := h4 0 (by omega) j hj
    rw [show 26 * 0 + j = j by omega] at t
    exact t
  · rw [ff_f1 c hc]
    rfl
  refine ff_mirrored (T := ff_T 1 (ff_s1 c)) h3 hst h4 hT (by rw [ff_one c hc]; decide) (br_t ?_ (br_f (by decide) ?_))
  · rw [ff_f2 c hc]
    rfl
  have W : ∀ v, v = (if c = 2 then 4 else 8) → wL_lawOf_302 (fun r _ => r = 1) mc ms (nI c) (nI d) 1 (nI v) kc ks 1 (nI 1) 1 a1 a2 a3 a4 b5 b6 a7 a8 := by
    intro v hv
    refine br_f (by decide) (ff_word (T := ff_T 1 (ff_s1 c)) 3 h3 hst h4 hT (by omega) (by rw [ff_one c hc]; decide) (br_t ?_ (br_f (by decide) ?_)))
    · rw [ff_f3 c hc, hv]
    · rw [e3]
      exact ff_again h1 (fun ψ h => ff_piece1 (by omega) (by omega) h) (br_t rfl rfl)
  exact pk_eq c 2 (fun e => W 4 (if_pos e).symm) (fun e => W 8 (if_neg e).symm)
theorem ff_law1 {mc ms kc ks c d : Nat} (hc : c < 3) :
    wL_lawOf_33 (fun r _ => r = 1) mc ms (nI c) (nI d) 1 kc ks 0 0 0 (fun _ => 0) (fun _ => 0) (fun _ => 0) (fun _ => 0) (fun _ => 0) (fun _ => 0) (fun _ => 0) (fun _ => 0) := by
  have e3 : (3 : Int32) + nI c = nI (3 + c) := nI_add 3 c
  have A : ∀ z : Int32, wL_lawOf_79 (fun r _ => r = 1) mc ms (nI c) (nI d) 1 z kc ks 1 0 0 (upd (fun _ => 0) 0 (nI (3 + c))) (fun _ => 0) (fun _ => 0) (fun _ => 0) (fun _ => 0) (fun _ => 0) (fun _ => 0) (fun _ => 0) := by
    intro z
    refine br_f (by decide) (pk_lt 2 0 (fun z => absurd z (by omega)) (fun _ => pk_le 2 30 (fun _ => ff_build1 hc pk_us (fun _ => rfl) (fun b2 b3 g hb hg => ⟨pk_in 52 806 (by omega), br_f (by decide) ?_⟩)) (fun z => absurd z (by omega))))
    have c1 : ((26 : Int32) * 2).toNatClampNeg = 26 * 2 + 0 := by decide
    rw [c1, hg 2 (by omega) 0 (by omega)]
    exact ff_rest1 hc pk_us hb hg
  refine br_f (by decide) ?_
  rw [e3]
  exact ff_first (fun ψ h => ff_piece1 (by omega) (by omega) h) (br_t rfl (br_c (fun _ => A 1) (fun _ => A 0)))
/-- one pair forbidden: behind the first count -/
theorem ff_rest2 {mc ms kc ks c d : Nat} {z x8 : Int32} {a1 a2 a3 : Nat → Int32} {a4 a5 a6 : Nat → Int64} {a7 a8 : Nat → Int32} (hc : c < 3) (hd : d < 3) (h1 : a1 0 = nI (9 + 3 * c + d))
    (hz : z = if c = d then 1 else 0) (hx : x8 = if c = d then 22 else 21)
    (h3 : ∀ j, j < 78 → a3 j = nI (ff_s2 c d j)) (h4 : ∀ m, m ≤ 30 → ∀ j, j < 26 → a4 (26 * m + j) = lN (ff_T 2 (ff_s2 c d) m j)) :
    wL_lawOf_124 (fun r _ => r = 1) mc ms (nI c) (nI d) 0 z x8 8 (lN (ff_T 2 (ff_s2 c d) 2 0)) kc ks 1 (nI 2) 1 a1 a2 a3 a4 a5 a6 a7 a8 := by
  have hst := ff_s2_lt c d
  have hT := ff_T_63 2 (ff_s2 c d)
  have e3 : (3 : Int32) + nI c = nI (3 + c) := nI_add 3 c
  have e9 : (9 : Int32) + 3 * nI c + nI d = nI (9 + 3 * c + d) := by
    rw [show (3 : Int32) * nI c = nI (3 * c) from pk_mul 3 c, show (9 : Int32) + nI (3 * c) = nI (9 + 3 * c) from nI_add 9 _, nI_add]
  obtain ⟨g2, g3⟩ := ff_g0 c hc d hd
  have P : ∀ (A B : Prop), (c = d → B) → (¬ c = d → A) → (z = 0 → A) ∧ (¬ z = 0 → B) := by
    intro A B hB hA
    by_cases e : c = d
    · rw [if_pos e] at hz
      rw [hz]
      exact br_f (by decide) (hB e)
    · rw [if_neg e] at hz
      rw [hz]
      exact br_t rfl (hA e)
  refine br_t ?_ (ff_count 3 (by omega) h4 (br_t ?_ (ff_count 30 (by omega) h4 (br_t rfl (br_t ?_ (br_t rfl (ff_longest ?_ (br_t rfl ?_))))))))
  · rw [g2]
    rfl
  · rw [g3, hx]
    by_cases e : c = d
    · rw [if_pos e, if_pos e]
      decide
    · rw [if_neg e, if_neg e]
      decide
  · have t := ff_two_ge c d hc 29
    have u := hT 30 (by omega) 0
    exact (pk_lLE (a := 1073741825) (by omega) u).mpr t
  · have t := h4 9 (by omega) 0 (by omega)
    have t2 : 2 ^ 9 + 1 ≤ ff_T 2 (ff_s2 c d) 9 0 := ff_two_ge c d hc 8
    have u := hT 9 (by omega) 0
    rw [show 234 = 26 * 9 + 0 from rfl, t]
    intro w
    have w2 : ff_T 2 (ff_s2 c d) 9 0 = 0 := (pk_lEQ (b := 0) u (by omega)).mp w
    omega
  have M : ∀ (b5 b6 : Nat → Int64) (v : Nat), v = (if c = d then 2 else 3) → wL_lawOf_249 (fun r _ => r = 1) mc ms (nI c) (nI d) 0 (nI v) kc ks 1 (nI 2) 1 a1 a2 a3 a4 b5 b6 a7 a8 := by
    intro b5 b6 v hv
    have W : ∀ v, v = (if c = 2 ∧ d = 2 then 7 else 8) → wL_lawOf_302 (fun r _ => r = 1) mc ms (nI c) (nI d) 0 (nI v) kc ks 1 (nI 2) 1 a1 a2 a3 a4 b5 b6 a7 a8 := by
      intro v hv
      refine br_t rfl (ff_word (T := ff_T 2 (ff_s2 c d)) 7 h3 hst h4 hT (by omega) (by rw [g2]; decide) (br_t ?_ (br_t rfl ?_)))
      · rw [ff_g3 c hc d hd, hv]
      · rw [e9]
        exact ff_again h1 (fun ψ h => ff_piece2 (by omega) (by omega) h) (br_t rfl rfl)
    refine ff_mirrored (T := ff_T 2 (ff_s2 c d)) h3 hst h4 hT (Nat.lt_of_le_of_lt (ff_T_le 2 (ff_s2 c d) 1 0) (by decide)) (br_t ?_ (br_t rfl ?_))
    · rw [ff_g2 c hc d hd, hv]
    · exact pk_eq c 2 (fun e => pk_eq d 2 (fun f => W 7 (if_pos ⟨e, f⟩).symm) (fun f => W 8 (if_neg (fun h => f h.2)).symm)) (fun e => W 8 (if_neg (fun h => e h.1)).symm)
  refine ff_ending (c := c) (st := ff_s2 c d) (t0 := ff_T 2 (ff_s2 c d) 0) (by omega) hc h3 hst (fun j hj => ?_) (fun b5 b6 => br_t rfl ?_) e3
  · have t := h4 0 (by omega) j hj
    rw [show 26 * 0 + j = j by omega] at t
    exact t
  have g := ff_g1 c hc d hd
  refine P _ _ (fun e => ?_) (fun e => ?_)
  · rw [if_pos e] at g
    rw [g]
    exact br_t rfl (br_t rfl (P _ _ (fun _ => M b5 b6 2 (if_pos e).symm) (fun h => absurd e h)))
  · rw [if_neg e] at g
    rw [g]
    exact br_t rfl (br_t rfl (P _ _ (fun h => absurd h e) (fun _ => M b5 b6 3 (if_neg e).symm)))
theorem ff_law2 {mc ms kc ks c d : Nat} (hc : c < 3) (hd : d < 3) :
    wL_lawOf_33 (fun r _ => r = 1) mc ms (nI c) (nI d) 0 kc ks 0 0 0 (fun _ => 0) (fun _ => 0) (fun _ => 0) (fun _ => 0) (fun _ => 0) (fun _ => 0) (fun _ => 0) (fun _ => 0) := by
  have e9 : (9 : Int32) + 3 * nI c + nI d = nI (9 + 3 * c + d) := by
    rw [show (3 : Int32) * nI c = nI (3 * c) from pk_mul 3 c, show (9 : Int32) + nI (3 * c) = nI (9 + 3 * c) from nI_add 9 _, nI_add]
  have A : ∀ z x8 : Int32, z = (if c = d then 1 else 0) → x8 = (if c = d then 22 else 21) → wL_lawOf_103 (fun r _ => r = 1) mc ms (nI c) (nI d) 0 z x8 kc ks 1 0 0 (upd (fun _ => 0) 0 (nI (9 + 3 * c + d))) (fun _ => 0) (fun _ => 0) (fun _ => 0) (fun _ => 0) (fun _ => 0) (fun _ => 0) (fun _ => 0) := by
    intro z x8 hz hx
    refine pk_lt 2 0 (fun z => absurd z (by omega)) (fun _ => pk_le 2 30 (fun _ => ff_build2 hc hd pk_us (fun _ => rfl) (fun b2 b3 g hb hg => ⟨pk_in 52 806 (by omega), br_t rfl ?_⟩)) (fun z => absurd z (by omega)))
    have c1 : ((26 : Int32) * 2).toNatClampNeg = 26 * 2 + 0 := by decide
    rw [c1, hg 2 (by omega) 0 (by omega)]
    exact ff_rest2 hc hd pk_us hz hx hb hg
  refine br_t rfl ?_
  rw [e9]
  refine ff_first (fun ψ h => ff_piece2 (by omega) (by omega) h) (br_t rfl (pk_eq c d (fun e => ?_) (fun e => ?_)))
  · exact br_t rfl (br_f (by decide) (A 1 22 (if_pos e).symm (if_pos e).symm))
  · exact br_t rfl (br_t rfl (A 0 21 (if_neg e).symm (if_neg e).symm))
theorem ff_cell {post : Int32 → Prop} {L : Nat} {xs : Nat → Int32} {x : Int32} (k : Nat) (hL : L ≤ 3) (hk : k < 3) (H : ∀ r, post r) (hx : x = nI k := by rfl) : wpL_cellAt post L xs () x := by
  subst hx
  exact pk_le L k (fun _ => H _) (fun z => ⟨pk_in k L z, H _⟩)
theorem ff_and3 (x : Int32) : ∃ c, c < 3 ∧ (x &&& 3) - (x &&& 3) / 3 * 3 = nI c := by
  obtain ⟨j, hj, e⟩ := pk_andE x (m := 3) 2 (by decide)
  rw [e]
  exact ⟨j % 3, by omega, pk_rem (a := j) (d := 3) (by omega) (by omega) (by omega)⟩
theorem i_vc (xs : Nat → Int32) (L : Nat) (hL : L ≤ 3) : wpL_law (fun r => r = 1) L xs := by
  refine ff_cell 0 hL (by omega) (fun p0 => ff_cell 1 hL (by omega) (fun p1 => ff_cell 2 hL (by omega) (fun p2 => ?_)))
  obtain ⟨c, hc, ec⟩ := ff_and3 p0
  obtain ⟨d, hd, ed⟩ := ff_and3 p1
  refine ⟨1196, 19136, by omega, by omega, by omega, by omega, 1195, 19125, by omega, by omega, ?_⟩
  refine ⟨by omega, by omega, by omega, by omega, by omega, by omega, by omega, by omega, by omega, by omega, by omega, by omega, by omega, by omega, by omega, by omega, by decide, nm_r ec ⟨by decide, nm_r ed ?_⟩⟩
  exact br_c (fun _ => ff_law1 hc) (fun _ => ff_law2 hc hd)
end
