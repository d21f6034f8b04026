section
/-! part 1: nearest and relax, over any state -/
section
variable {c r f bw bs : Int32} {a1 a2 a3 a4 a5 a6 a7 a8 a9 a10 a11 : Nat → Int32}
/-- what nearest may answer: -1 and nothing near is left, or a copy that isn't done and isn't far -/
def cb_near (D dn : Nat → Int32) (x : Int32) : Prop := (x = -1 ∧ ∀ k, k < 14 → dn k = 0 → 1000000 ≤ D k) ∨ ∃ j : Nat, j < 14 ∧ x = nI j ∧ dn j = 0 ∧ ¬ 1000000 ≤ D j
theorem cb_nearest {post : Int32 → Prop} (H : ∀ x, cb_near a8 a10 x → post x) : wpX_nearest post (c, r, f, bw, bs, a1, a2, a3, a4, a5, a6, a7, a8, a9, a10, a11) := by
  refine pk_loop (fun n i s => wX_nearest_4 post c r f bw bs a1 a2 a3 a4 a5 a6 a7 a8 a9 a10 a11 n s (nI i)) (fun i x => (x = -1 ∧ ∀ k, k < i → a10 k = 0 → 1000000 ≤ a8 k) ∨ ∃ j : Nat, j < 14 ∧ x = nI j ∧ a10 j = 0 ∧ ¬ 1000000 ≤ a8 j) 14 0 (-1) (by omega) (Or.inl ⟨rfl, fun k hk => absurd hk (by omega)⟩) ?_ ?_
  · intro n s h
    exact pk_le 14 14 (fun _ => H s h) (fun z => absurd z (by omega))
  · intro n i s hi h hw
    refine pk_le 14 i (fun z => absurd z (by omega)) (fun _ => ⟨pk_in i 14 hi, ?_⟩)
    rw [nI_clamp (show i < 2 ^ 31 by omega)]
    have keep : (a10 i = 0 → 1000000 ≤ a8 i) → ((s = -1 ∧ ∀ k, k < i + 1 → a10 k = 0 → 1000000 ≤ a8 k) ∨ ∃ j : Nat, j < 14 ∧ s = nI j ∧ a10 j = 0 ∧ ¬ 1000000 ≤ a8 j) := by
      intro g
      rcases h with ⟨hs, hk⟩ | hr
      · refine Or.inl ⟨hs, fun k hk' z => ?_⟩
        by_cases e : k = i
        · rw [e] at z ⊢
          exact g z
        · exact hk k (by omega) z
      · exact Or.inr hr
    refine br_c (fun h0 => ⟨pk_in i 14 hi, br_c (fun h1 => nm_r (nI_1 i) (hw s (keep (fun _ => h1)))) (fun h1 => ?_)⟩) (fun h0 => nm_r (nI_1 i) (hw s (keep (fun z => absurd z h0))))
    rcases h with ⟨hs, hk⟩ | ⟨j, hj, hs, hd, hl⟩
    · subst hs
      exact br_t (by decide) (nm_r (nI_1 i) (hw (nI i) (Or.inr ⟨i, hi, rfl, h0, h1⟩)))
    · subst hs
      exact br_f (nI_pos (by omega)) ⟨pk_in i 14 hi, pk_in j 14 hj, br_c (fun _ => nm_r (nI_1 i) (hw (nI j) (Or.inr ⟨j, hj, rfl, hd, hl⟩))) (fun _ => nm_r (nI_1 i) (hw (nI i) (Or.inr ⟨i, hi, rfl, h0, h1⟩)))⟩
/-- the copy that an edge between p and q leads to from copy x -/
def cb_oth (p q x : Nat) : Nat := if x % 7 = p then q else p
def cb_y (p q : Nat) (cr : Bool) (x : Nat) : Nat := if decide (7 ≤ x) = cr then cb_oth p q x else cb_oth p q x + 7
theorem cb_y_lt {p q x : Nat} {cr : Bool} (hp : p < 7) (hq : q < 7) : cb_y p q cr x < 14 := by
  unfold cb_y cb_oth
  split <;> split <;> omega
theorem cb_111 {post : St2 → Prop} {x e y : Nat} (hx : x < 14) (he : e < 12) (hy : y < 14)
    (H0 : a8 y ≤ a8 x + a3 e → post (c, r, f, bw, bs, a1, a2, a3, a4, a5, a6, a7, a8, a9, a10, a11))
    (H1 : ¬ a8 y ≤ a8 x + a3 e → post (c, r, f, bw, bs, a1, a2, a3, a4, a5, a6, a7, upd a8 y (a8 x + a3 e), upd a9 y (a9 x ^^^ ((1 : Int32) <<< (nI e &&& 31))), a10, a11)) :
    wX_relax_111 post (nI x) (nI e) (nI y) c r f bw bs a1 a2 a3 a4 a5 a6 a7 a8 a9 a10 a11 := by
  unfold wX_relax_111
  rw [nI_clamp (show x < 2 ^ 31 by omega), nI_clamp (show e < 2 ^ 31 by omega), nI_clamp (show y < 2 ^ 31 by omega)]
  exact ⟨pk_in x 14 hx, pk_in e 12 he, pk_in y 14 hy, br_c H0 (fun z => ⟨pk_in x 14 hx, pk_in e 12 he, pk_in y 14 hy, nm_e ⟨pk_in x 14 hx, pk_in y 14 hy, nm_e (H1 z)⟩⟩)⟩
theorem cb_71 {post : St2 → Prop} {x w : Nat} {e : Int32} (cr : Bool) (hx : x < 14)
    (K : wX_relax_111 post (nI x) e (nI (if decide (7 ≤ x) = cr then w else w + 7)) c r f bw bs a1 a2 a3 a4 a5 a6 a7 a8 a9 a10 a11) :
    wX_relax_71 post (nI x) e (nI w) (if cr = true then 1 else 0) c r f bw bs a1 a2 a3 a4 a5 a6 a7 a8 a9 a10 a11 := by
  have e7 : nI w + 7 = nI (w + 7) := nI_add w 7
  refine pk_lt x 7 (fun z => ?_) (fun z => ?_)
  · rw [decide_eq_false (show ¬ 7 ≤ x by omega)] at K
    cases cr
    · exact br_t rfl (br_t rfl K)
    · refine br_f (by decide) (br_f (by decide) ?_)
      rw [e7]
      exact K
  · rw [decide_eq_true (show 7 ≤ x by omega)] at K
    cases cr
    · refine br_f (by decide) (br_f (by decide) ?_)
      rw [e7]
      exact K
    · exact br_t rfl (br_t rfl K)
/-- relax over an edge between p and q, in either order -/
theorem cb_relax {post : St2 → Prop} {x e p q : Nat} {set : Int32} {cr : Bool} (hx : x < 14) (he : e < 12) (hp : p < 7) (hq : q < 7) (hn : p ≠ q)
    (hg : (a1 e = nI p ∧ a2 e = nI q) ∨ (a1 e = nI q ∧ a2 e = nI p))
    (hc : ((set >>> (nI e &&& 31)) &&& 1) = 1 ↔ cr = true)
    (H0 : (¬ (x % 7 = p ∨ x % 7 = q) ∨ a8 (cb_y p q cr x) ≤ a8 x + a3 e) → post (c, r, f, bw, bs, a1, a2, a3, a4, a5, a6, a7, a8, a9, a10, a11))
    (H1 : (x % 7 = p ∨ x % 7 = q) → ¬ a8 (cb_y p q cr x) ≤ a8 x + a3 e → post (c, r, f, bw, bs, a1, a2, a3, a4, a5, a6, a7, upd a8 (cb_y p q cr x) (a8 x + a3 e), upd a9 (cb_y p q cr x) (a9 x ^^^ ((1 : Int32) <<< (nI e &&& 31))), a10, a11)) :
    wpX_relax post (c, r, f, bw, bs, a1, a2, a3, a4, a5, a6, a7, a8, a9, a10, a11) (nI x) (nI e) set := by
  have K1 : (x % 7 = p ∨ x % 7 = q) → wX_relax_111 post (nI x) (nI e) (nI (cb_y p q cr x)) c r f bw bs a1 a2 a3 a4 a5 a6 a7 a8 a9 a10 a11 :=
    fun z => cb_111 hx he (cb_y_lt hp hq) (fun g => H0 (Or.inr g)) (H1 z)
  have K55 : (x % 7 = p ∨ x % 7 = q) → wX_relax_55 post (nI x) (nI e) set (nI (cb_oth p q x)) c r f bw bs a1 a2 a3 a4 a5 a6 a7 a8 a9 a10 a11 := by
    intro z
    have K7 := cb_71 cr hx (K1 z)
    refine br_c (fun g => ?_) (fun g => ?_)
    · rw [if_pos (hc.mp g)] at K7
      exact K7
    · rw [if_neg (fun t => g (hc.mpr t))] at K7
      exact K7
  have xm : x % 7 < 7 := Nat.mod_lt _ (by omega)
  have K29 : (x % 7 = p ∨ x % 7 = q) → wX_relax_29 post (nI x) (nI e) set (nI (x % 7)) c r f bw bs a1 a2 a3 a4 a5 a6 a7 a8 a9 a10 a11 := by
    intro z
    have K := K55 z
    unfold wX_relax_29
    rw [nI_clamp (show e < 2 ^ 31 by omega)]
    refine ⟨pk_in e 12 he, ?_⟩
    unfold cb_oth at K
    rcases hg with ⟨g1, g2⟩ | ⟨g1, g2⟩
    · rw [g1, g2]
      refine pk_eq (x % 7) p (fun t => ⟨pk_in e 12 he, ?_⟩) (fun t => ⟨pk_in e 12 he, ?_⟩)
      · rw [if_pos t] at K
        exact K
      · rw [if_neg t] at K
        exact K
    · rw [g1, g2]
      refine pk_eq (x % 7) q (fun t => ⟨pk_in e 12 he, ?_⟩) (fun t => ⟨pk_in e 12 he, ?_⟩)
      · rw [if_neg (by omega)] at K
        exact K
      · rw [if_pos (by omega)] at K
        exact K
  refine ⟨by decide, nm_r (pk_rem (a := x) (d := 7) (by omega) (by omega) (by omega)) ?_⟩
  rw [nI_clamp (show e < 2 ^ 31 by omega)]
  refine ⟨pk_in e 12 he, ?_⟩
  rcases hg with ⟨g1, g2⟩ | ⟨g1, g2⟩
  · rw [g1, g2]
    exact pk_eq (x % 7) p (fun t => K29 (Or.inl t)) (fun t => ⟨pk_in e 12 he, pk_eq (x % 7) q (fun t' => K29 (Or.inr t')) (fun t' => H0 (Or.inl (by omega)))⟩)
  · rw [g1, g2]
    exact pk_eq (x % 7) q (fun t => K29 (Or.inr t)) (fun t => ⟨pk_in e 12 he, pk_eq (x % 7) p (fun t' => K29 (Or.inl t')) (fun t' => H0 (Or.inl (by omega)))⟩)
end
end
section
/-! part 2: searchFrom over a graph whose edges all lie between p and q -/
section
variable {c r f bw bs : Int32} {a1 a2 a3 a4 a5 a6 a7 a8 a9 a10 a11 : Nat → Int32}
/-- the graph: C edges, each between p and q in either order, of weight w e -/
def cb_G (C p q : Nat) (w : Nat → Nat) (a1 a2 a3 : Nat → Int32) : Prop := C ≤ 12 ∧ p < 7 ∧ q < 7 ∧ p ≠ q ∧ ∀ e, e < C → ((a1 e = nI p ∧ a2 e = nI q) ∨ (a1 e = nI q ∧ a2 e = nI p)) ∧ a3 e = nI (w e) ∧ 1 ≤ w e ∧ w e ≤ 100
theorem cb_G_sym {C p q : Nat} {w : Nat → Nat} (G : cb_G C p q w a1 a2 a3) : cb_G C q p w a1 a2 a3 :=
  ⟨G.1, G.2.2.1, G.2.1, fun z => G.2.2.2.1 z.symm, fun e he => ⟨(G.2.2.2.2 e he).1.symm, (G.2.2.2.2 e he).2⟩⟩
/-- the arrays dist and way hold the pictures d and v -/
def cb_K (D W : Nat → Int32) (d : Nat → Nat) (v : Nat → Int32) : Prop := ∀ j, j < 14 → D j = nI (d j) ∧ W j = v j
/-- what relax does to the pictures: nothing, or one place -/
def cb_e (p q w : Nat) (cr : Bool) (wo : Int32) (x e : Nat) (d d' : Nat → Nat) (v v' : Nat → Int32) : Prop :=
  (∀ j, j < 14 → d j ≤ 1000000) ∧
    (((nI e = wo ∨ ¬ (x % 7 = p ∨ x % 7 = q) ∨ d (cb_y p q cr x) ≤ d x + w) ∧ ∀ j, j < 14 → d' j = d j ∧ v' j = v j) ∨
      (¬ nI e = wo ∧ (x % 7 = p ∨ x % 7 = q) ∧ d x + w < d (cb_y p q cr x) ∧ ∀ j, j < 14 → d' j = (if j = cb_y p q cr x then d x + w else d j) ∧ v' j = (if j = cb_y p q cr x then v x ^^^ ((1 : Int32) <<< (nI e &&& 31)) else v j)))
theorem cb_77 {post : St2 → Prop} {J : Int32 → Int32 → Int32 → Int32 → Int32 → Int32 → Int32 → (Nat → Int32) → (Nat → Int32) → (Nat → Int32) → (Nat → Int32) → (Nat → Int32) → (Nat → Int32) → (Nat → Int32) → (Nat → Int32) → (Nat → Int32) → (Nat → Int32) → (Nat → Int32) → Prop} {set wo : Int32} {C p q x i : Nat} {w : Nat → Nat} {cr : Nat → Bool} {dd : Nat → Nat → Nat} {vv : Nat → Nat → Int32}
    (G : cb_G C p q w a1 a2 a3) (hx : x < 14) (hc : ∀ e, e < C → (((set >>> (nI e &&& 31)) &&& 1) = 1 ↔ cr e = true))
    (h0 : cb_K a8 a9 (dd 0) (vv 0))
    (hs : ∀ e, e < C → cb_e p q (w e) (cr e) wo x e (dd e) (dd (e + 1)) (vv e) (vv (e + 1)))
    (HJ : ∀ D W z, cb_K D W (dd C) (vv C) → cb_near D a10 z → J z (nI (i + 1)) (nI C) r f bw bs a1 a2 a3 a4 a5 a6 a7 D W a10 a11) :
    ∃ n, wX_searchFrom_77 post J set wo (nI x) (nI i) n 0 (nI C) r f bw bs a1 a2 a3 a4 a5 a6 a7 a8 a9 a10 a11 := by
  obtain ⟨hC, hp, hq, hn, hg⟩ := G
  refine pk_loop (fun n e s => wX_searchFrom_77 post J set wo (nI x) (nI i) n (nI e) (nI C) r f bw bs a1 a2 a3 a4 a5 a6 a7 s.1 s.2 a10 a11) (fun e s => cb_K s.1 s.2 (dd e) (vv e)) C 0 (a8, a9) (by omega) h0 ?_ ?_
  · intro n s h
    exact pk_le C C (fun _ => cb_nearest (fun z hz => nm_r (nI_1 i) (HJ s.1 s.2 z h hz))) (fun z => absurd z (by omega))
  · intro n e s he h hw
    obtain ⟨D, W⟩ := s
    obtain ⟨g1, g3, g4, g5⟩ := hg e he
    obtain ⟨hb, hh⟩ := hs e he
    have hy : cb_y p q (cr e) x < 14 := cb_y_lt hp hq
    have h' : cb_K D W (dd e) (vv e) := h
    have E1 : D x + a3 e = nI (dd e x + w e) := by rw [(h' x hx).1, g3, nI_add]
    have E2 : D (cb_y p q (cr e) x) = nI (dd e (cb_y p q (cr e) x)) := (h' _ hy).1
    have b1 := hb x hx
    have b2 := hb _ hy
    have E3 : D (cb_y p q (cr e) x) ≤ D x + a3 e ↔ dd e (cb_y p q (cr e) x) ≤ dd e x + w e := by
      rw [E1, E2]
      exact nI_leI (by omega) (by omega)
    refine pk_le C e (fun z => absurd z (by omega)) (fun _ => br_c (fun z => nm_r (nI_1 e) (hw (D, W) ?_)) (fun z => cb_relax hx (by omega) hp hq hn g1 (hc e he) (fun t => nm_r (nI_1 e) (hw (D, W) ?_)) (fun t t' => nm_r (nI_1 e) (hw (upd D (cb_y p q (cr e) x) (D x + a3 e), upd W (cb_y p q (cr e) x) (W x ^^^ ((1 : Int32) <<< (nI e &&& 31)))) ?_))))
    · rcases hh with ⟨_, hk⟩ | ⟨hk, _⟩
      · intro j hj
        rw [(hk j hj).1, (hk j hj).2]
        exact h' j hj
      · exact absurd z hk
    · rcases hh with ⟨_, hk⟩ | ⟨_, k1, k2, _⟩
      · intro j hj
        rw [(hk j hj).1, (hk j hj).2]
        exact h' j hj
      · exfalso
        rcases t with t | t
        · exact t k1
        · have := E3.mp t
          omega
    · rcases hh with ⟨k1, _⟩ | ⟨_, _, _, hk⟩
      · exfalso
        rcases k1 with k | k | k
        · exact z k
        · exact k t
        · exact t' (E3.mpr k)
      · intro j hj
        obtain ⟨m1, m2⟩ := hk j hj
        rw [m1, m2]
        show upd D (cb_y p q (cr e) x) (D x + a3 e) j = _ ∧ upd W (cb_y p q (cr e) x) (W x ^^^ ((1 : Int32) <<< (nI e &&& 31))) j = _
        by_cases ej : j = cb_y p q (cr e) x
        · rw [ej, if_pos rfl, if_pos rfl, pk_us, pk_us]
          exact ⟨E1, by rw [(h' x hx).2]⟩
        · rw [if_neg ej, if_neg ej, pk_un ej, pk_un ej]
          exact h' j hj
/-- one turn of searchFrom's loop -/
theorem cb_54u {post : St2 → Prop} {set wo : Int32} {C p q x i n : Nat} {w : Nat → Nat} {cr : Nat → Bool} {dd : Nat → Nat → Nat} {vv : Nat → Nat → Int32}
    (G : cb_G C p q w a1 a2 a3) (hx : x < 14) (hi : i < 14) (hc : ∀ e, e < C → (((set >>> (nI e &&& 31)) &&& 1) = 1 ↔ cr e = true))
    (h0 : cb_K a8 a9 (dd 0) (vv 0))
    (hs : ∀ e, e < C → cb_e p q (w e) (cr e) wo x e (dd e) (dd (e + 1)) (vv e) (vv (e + 1)))
    (HJ : ∀ D W z, cb_K D W (dd C) (vv C) → cb_near D (upd a10 x 1) z → wX_searchFrom_54 post set wo n z (nI (i + 1)) (nI C) r f bw bs a1 a2 a3 a4 a5 a6 a7 D W (upd a10 x 1) a11) :
    wX_searchFrom_54 post set wo (n + 1) (nI x) (nI i) (nI C) r f bw bs a1 a2 a3 a4 a5 a6 a7 a8 a9 a10 a11 :=
  pk_le 14 i (fun z => absurd z (by omega)) (fun _ => br_f (nI_pos (by omega)) ⟨pk_in x 14 hx, nm_r (e' := upd a10 x 1) (by rw [nI_clamp (by omega)]) (cb_77 G hx hc h0 hs HJ)⟩)
/-- once no edge relaxes anything the loop ends and leaves dist and way -/
theorem cb_54s {post : St2 → Prop} {set wo : Int32} {C p q : Nat} {w : Nat → Nat} {cr : Nat → Bool} {d : Nat → Nat} {v : Nat → Int32}
    (G : cb_G C p q w a1 a2 a3) (hc : ∀ e, e < C → (((set >>> (nI e &&& 31)) &&& 1) = 1 ↔ cr e = true))
    (st : ∀ e x, e < C → x < 14 → cb_e p q (w e) (cr e) wo x e d d v v)
    (H : ∀ D W dn, cb_K D W d v → post (nI C, r, f, bw, bs, a1, a2, a3, a4, a5, a6, a7, D, W, dn, a11)) :
    ∀ (n i : Nat) (x : Int32) (a8 a9 a10 : Nat → Int32), i ≤ 14 → 14 - i < n → cb_K a8 a9 d v → (x = -1 ∨ ∃ j : Nat, j < 14 ∧ x = nI j) → wX_searchFrom_54 post set wo n x (nI i) (nI C) r f bw bs a1 a2 a3 a4 a5 a6 a7 a8 a9 a10 a11 := by
  intro n
  induction n with
  | zero => intro i x a8 a9 a10 h1 h2; exact absurd h2 (by omega)
  | succ n ih =>
    intro i x a8 a9 a10 h1 h2 hk hz
    by_cases hi : i = 14
    · rw [hi]
      exact pk_le 14 14 (fun _ => H a8 a9 a10 hk) (fun z => absurd z (by omega))
    · rcases hz with hz | ⟨j, hj, hz⟩
      · rw [hz]
        exact pk_le 14 i (fun z => absurd z (by omega)) (fun _ => br_t (by decide) (H a8 a9 a10 hk))
      · rw [hz]
        refine cb_54u (dd := fun _ => d) (vv := fun _ => v) G hj (by omega) hc hk (fun e he => st e j he hj) (fun D W z hK hn => ih (i + 1) z D W _ (by omega) (by omega) hK ?_)
        rcases hn with ⟨t, _⟩ | ⟨k, hk1, hk2, _⟩
        · exact Or.inl t
        · exact Or.inr ⟨k, hk1, hk2⟩
/-- dist at the start -/
def cb_d0 (s j : Nat) : Nat := if j = s then 0 else 1000000
theorem cb_sf {post : St2 → Prop} {s : Nat} {set wo : Int32} (hs : s < 14)
    (H : ∀ D W dn, cb_K D W (cb_d0 s) (fun _ => 0) → (∀ j, j < 14 → dn j = 0) → wX_searchFrom_54 post set wo 15 (nI s) (nI 0) c r f bw bs a1 a2 a3 a4 a5 a6 a7 D W dn a11) :
    wpX_searchFrom post (c, r, f, bw, bs, a1, a2, a3, a4, a5, a6, a7, a8, a9, a10, a11) (nI s) set wo := by
  refine pk_loop (fun n i t => wX_searchFrom_3 post (nI s) set wo c r f bw bs n (nI i) a1 a2 a3 a4 a5 a6 a7 t.1 t.2.1 t.2.2 a11) (fun i t => ∀ j, j < i → t.1 j = 1000000 ∧ t.2.1 j = 0 ∧ t.2.2 j = 0) 14 0 (a8, a9, a10) (by omega) (fun j hj => absurd hj (by omega)) ?_ ?_
  · intro n t h
    refine pk_le 14 14 (fun _ => ⟨pk_in s 14 hs, nm_r (e' := upd t.1 s 0) (by rw [nI_clamp (by omega)]) ⟨15, H _ _ _ (fun j hj => ?_) (fun j hj => (h j hj).2.2)⟩⟩) (fun z => absurd z (by omega))
    unfold cb_d0
    by_cases e : j = s
    · rw [if_pos e, e, pk_us]
      exact ⟨rfl, (h s hs).2.1⟩
    · rw [if_neg e, pk_un e]
      exact ⟨(h j hj).1, (h j hj).2.1⟩
  · intro n i t hi h hw
    refine pk_le 14 i (fun z => absurd z (by omega)) (fun _ => ?_)
    rw [nI_clamp (show i < 2 ^ 31 by omega)]
    refine ⟨pk_in i 14 hi, nm_e ⟨pk_in i 14 hi, nm_e ⟨pk_in i 14 hi, nm_e (nm_r (nI_1 i) (hw (upd t.1 i 1000000, upd t.2.1 i 0, upd t.2.2 i 0) (fun j hj => ?_)))⟩⟩⟩
    show upd t.1 i 1000000 j = 1000000 ∧ upd t.2.1 i 0 j = 0 ∧ upd t.2.2 i 0 j = 0
    by_cases e : j = i
    · rw [e, pk_us, pk_us, pk_us]
      exact ⟨rfl, rfl, rfl⟩
    · rw [pk_un e, pk_un e, pk_un e]
      exact h j (by omega)
end
end
section
/-! part 3: what searchFrom leaves, in the three cases that the law meets -/
section
variable {c r f bw bs : Int32} {a1 a2 a3 a4 a5 a6 a7 a8 a9 a10 a11 : Nat → Int32}
theorem cb_y_eval {p q : Nat} (hp : p < 7) (hq : q < 7) (hn : p ≠ q) : cb_y p q false p = q ∧ cb_y p q true p = q + 7 ∧ cb_y p q false q = p ∧ cb_y p q true q = p + 7 ∧ cb_y p q false (p + 7) = q + 7 ∧ cb_y p q true (p + 7) = q ∧ cb_y p q false (q + 7) = p + 7 ∧ cb_y p q true (q + 7) = p := by
  have e1 : decide (7 ≤ p) = false := decide_eq_false (by omega)
  have e2 : decide (7 ≤ q) = false := decide_eq_false (by omega)
  have e3 : decide (7 ≤ p + 7) = true := decide_eq_true (by omega)
  have e4 : decide (7 ≤ q + 7) = true := decide_eq_true (by omega)
  have o1 : cb_oth p q p = q := if_pos (by omega)
  have o2 : cb_oth p q q = p := if_neg (by omega)
  have o3 : cb_oth p q (p + 7) = q := if_pos (by omega)
  have o4 : cb_oth p q (q + 7) = p := if_neg (by omega)
  unfold cb_y
  rw [e1, e2, e3, e4, o1, o2, o3, o4]
  exact ⟨rfl, rfl, rfl, rfl, rfl, rfl, rfl, rfl⟩
theorem cb_touch {p q x : Nat} (hp : p < 7) (hq : q < 7) (hx : x < 14) (h : x % 7 = p ∨ x % 7 = q) : x = p ∨ x = q ∨ x = p + 7 ∨ x = q + 7 := by omega
theorem cb_st {p q w e x : Nat} {cr : Bool} {wo : Int32} {d : Nat → Nat} {v : Nat → Int32} (hp : p < 7) (hq : q < 7) (hb : ∀ j, d j ≤ 1000000)
    (h : ¬ nI e = wo → d (cb_y p q cr p) ≤ d p + w ∧ d (cb_y p q cr q) ≤ d q + w ∧ d (cb_y p q cr (p + 7)) ≤ d (p + 7) + w ∧ d (cb_y p q cr (q + 7)) ≤ d (q + 7) + w) (hx : x < 14) : cb_e p q w cr wo x e d d v v := by
  refine ⟨fun j _ => hb j, Or.inl ⟨?_, fun j _ => ⟨rfl, rfl⟩⟩⟩
  by_cases h1 : nI e = wo
  · exact Or.inl h1
  · by_cases h2 : x % 7 = p ∨ x % 7 = q
    · obtain ⟨k1, k2, k3, k4⟩ := h h1
      refine Or.inr (Or.inr ?_)
      rcases cb_touch hp hq hx h2 with t | t | t | t <;> rw [t] <;> assumption
    · exact Or.inr (Or.inl h2)
theorem cb_e_no {p q w e x y : Nat} {cr : Bool} {wo : Int32} {d : Nat → Nat} {v : Nat → Int32} (hb : ∀ j, d j ≤ 1000000) (hy : cb_y p q cr x = y) (h : d y ≤ d x + w) : cb_e p q w cr wo x e d d v v := by
  refine ⟨fun j _ => hb j, Or.inl ⟨Or.inr (Or.inr ?_), fun j _ => ⟨rfl, rfl⟩⟩⟩
  rw [hy]
  exact h
theorem cb_e_hit {p q w e x y : Nat} {cr : Bool} {wo : Int32} {d d' : Nat → Nat} {v v' : Nat → Int32} (hb : ∀ j, d j ≤ 1000000) (hne : ¬ nI e = wo) (ht : x % 7 = p ∨ x % 7 = q) (hy : cb_y p q cr x = y) (h : d x + w < d y)
    (hd : ∀ j, d' j = (if j = y then d x + w else d j)) (hv : ∀ j, v' j = (if j = y then v x ^^^ ((1 : Int32) <<< (nI e &&& 31)) else v j)) : cb_e p q w cr wo x e d d' v v' := by
  refine ⟨fun j _ => hb j, Or.inr ⟨hne, ht, ?_, fun j _ => ?_⟩⟩
  · rw [hy]
    exact h
  · rw [hy]
    exact ⟨hd j, hv j⟩
theorem cb_d0_le (s j : Nat) : cb_d0 s j ≤ 1000000 := by
  unfold cb_d0
  split <;> omega
/-- no edge that is asked touches the start: everything else stays far -/
theorem cb_sf_stay {post : St2 → Prop} {set wo : Int32} {C p q s : Nat} {w : Nat → Nat} {cr : Nat → Bool} (G : cb_G C p q w a1 a2 a3) (hs : s < 7)
    (hc : ∀ e, e < C → (((set >>> (nI e &&& 31)) &&& 1) = 1 ↔ cr e = true)) (ht : ∀ e, e < C → ¬ nI e = wo → s ≠ p ∧ s ≠ q)
    (H : ∀ D W dn, cb_K D W (cb_d0 s) (fun _ => 0) → post (nI C, r, f, bw, bs, a1, a2, a3, a4, a5, a6, a7, D, W, dn, a11)) :
    wpX_searchFrom post (nI C, r, f, bw, bs, a1, a2, a3, a4, a5, a6, a7, a8, a9, a10, a11) (nI s) set wo := by
  have hp : p < 7 := G.2.1
  have hq : q < 7 := G.2.2.1
  refine cb_sf (by omega) (fun D W dn hk _ => cb_54s G hc (fun e x he hx => cb_st hp hq (cb_d0_le s) (fun hne => ?_) hx) H 15 0 (nI s) D W dn (by omega) (by omega) hk (Or.inr ⟨s, by omega, rfl⟩))
  obtain ⟨n1, n2⟩ := ht e he hne
  have z1 : cb_d0 s p = 1000000 := if_neg (by omega)
  have z2 : cb_d0 s q = 1000000 := if_neg (by omega)
  have z3 : cb_d0 s (p + 7) = 1000000 := if_neg (by omega)
  have z4 : cb_d0 s (q + 7) = 1000000 := if_neg (by omega)
  have k := cb_d0_le s
  rw [z1, z2, z3, z4]
  exact ⟨Nat.le_trans (k _) (by omega), Nat.le_trans (k _) (by omega), Nat.le_trans (k _) (by omega), Nat.le_trans (k _) (by omega)⟩
/-- one edge is asked, uncrossed -/
def cb_d1 (p q w j : Nat) : Nat := if j = p then 0 else if j = q then w else 1000000
def cb_v1 (q : Nat) (b : Int32) (j : Nat) : Int32 := if j = q then 0 ^^^ b else 0
def cb_pk {α : Type} (m : Nat) (a b : α) (e : Nat) : α := if e ≤ m then a else b
theorem cb_pk_lo {α : Type} {m e : Nat} {a b : α} (h : e ≤ m) : cb_pk m a b e = a := if_pos h
theorem cb_pk_hi {α : Type} {m e : Nat} {a b : α} (h : m < e) : cb_pk m a b e = b := if_neg (by omega)
theorem cb_d1_le {p q w : Nat} (hw : w ≤ 100) (j : Nat) : cb_d1 p q w j ≤ 1000000 := by
  unfold cb_d1
  repeat' split
  all_goals omega
theorem cb_sf_one {post : St2 → Prop} {set wo : Int32} {p q m : Nat} {w : Nat → Nat} (G : cb_G 2 p q w a1 a2 a3) (hm : m < 2)
    (hc : ∀ e, e < 2 → (((set >>> (nI e &&& 31)) &&& 1) = 1 ↔ false = true)) (hwo : ∀ e, e < 2 → (¬ nI e = wo ↔ e = m))
    (H : ∀ D W dn, (∀ j, j < 14 → D j = nI (cb_d1 p q (w m) j)) → post (nI 2, r, f, bw, bs, a1, a2, a3, a4, a5, a6, a7, D, W, dn, a11)) :
    wpX_searchFrom post (nI 2, r, f, bw, bs, a1, a2, a3, a4, a5, a6, a7, a8, a9, a10, a11) (nI p) set wo := by
  have hp : p < 7 := G.2.1
  have hq : q < 7 := G.2.2.1
  have hn : p ≠ q := G.2.2.2.1
  obtain ⟨_, _, w1, w2⟩ := G.2.2.2.2 m hm
  obtain ⟨y1, _, y2, _, y3, _, y4, _⟩ := cb_y_eval hp hq hn
  have x1 : cb_d1 p q (w m) p = 0 := by unfold cb_d1; (repeat' split) <;> omega
  have x2 : cb_d1 p q (w m) q = w m := by unfold cb_d1; (repeat' split) <;> omega
  have x3 : cb_d1 p q (w m) (p + 7) = 1000000 := by unfold cb_d1; (repeat' split) <;> omega
  have x4 : cb_d1 p q (w m) (q + 7) = 1000000 := by unfold cb_d1; (repeat' split) <;> omega
  have z1 : cb_d0 p p = 0 := if_pos rfl
  have z2 : cb_d0 p q = 1000000 := if_neg (by omega)
  refine cb_sf (by omega) (fun D W dn hk _ => ?_)
  refine cb_54u (n := 14) (dd := cb_pk m (cb_d0 p) (cb_d1 p q (w m))) (vv := cb_pk m (fun _ => 0) (cb_v1 q ((1 : Int32) <<< (nI m &&& 31)))) (cr := fun _ => false) G (by omega) (by omega) hc ?_ (fun e he => ?_) (fun D' W' z hk' hz => ?_)
  · rw [cb_pk_lo (show 0 ≤ m by omega), cb_pk_lo (show 0 ≤ m by omega)]
    exact hk
  · by_cases em : e = m
    · rw [em, cb_pk_lo (show m ≤ m by omega), cb_pk_lo (show m ≤ m by omega), cb_pk_hi (show m < m + 1 by omega), cb_pk_hi (show m < m + 1 by omega)]
      refine cb_e_hit (cb_d0_le p) ((hwo m hm).mpr rfl) (Or.inl (by omega)) y1 (by omega) (fun j => ?_) (fun j => rfl)
      rw [z1]
      unfold cb_d1 cb_d0
      repeat' split
      all_goals omega
    · have e1 : nI e = wo := Classical.byContradiction (fun t => em ((hwo e he).mp t))
      by_cases l : e < m
      · rw [cb_pk_lo (show e ≤ m by omega), cb_pk_lo (show e ≤ m by omega), cb_pk_lo (show e + 1 ≤ m by omega), cb_pk_lo (show e + 1 ≤ m by omega)]
        exact ⟨fun j _ => cb_d0_le p j, Or.inl ⟨Or.inl e1, fun j _ => ⟨rfl, rfl⟩⟩⟩
      · rw [cb_pk_hi (show m < e by omega), cb_pk_hi (show m < e by omega), cb_pk_hi (show m < e + 1 by omega), cb_pk_hi (show m < e + 1 by omega)]
        exact ⟨fun j _ => cb_d1_le w2 j, Or.inl ⟨Or.inl e1, fun j _ => ⟨rfl, rfl⟩⟩⟩
  · rw [cb_pk_hi (show m < 2 by omega), cb_pk_hi (show m < 2 by omega)] at hk'
    refine cb_54s G hc (fun e x he hx => cb_st hp hq (cb_d1_le w2) (fun hne => ?_) hx) (fun D W dn h => H D W dn (fun j hj => (h j hj).1)) 14 1 z D' W' _ (by omega) (by omega) hk' ?_
    · rw [(hwo e he).mp hne, y1, y2, y3, y4, x1, x2, x3, x4]
      omega
    · rcases hz with ⟨t, _⟩ | ⟨k, hk1, hk2, _⟩
      · exact Or.inl t
      · exact Or.inr ⟨k, hk1, hk2⟩
/-- both edges are asked, the second one crosses -/
def cb_d2 (p q A B j : Nat) : Nat := if j = q + 7 then B else cb_d1 p q A j
def cb_d3 (p q A B j : Nat) : Nat := if j = p + 7 then A + B else cb_d2 p q A B j
def cb_w1 (q j : Nat) : Int32 := if j = q then 1 else 0
def cb_w2 (q j : Nat) : Int32 := if j = q + 7 then 2 else cb_w1 q j
def cb_w3 (p q j : Nat) : Int32 := if j = p + 7 then 3 else cb_w2 q j
def cb_t3 {α : Type} (x y z : α) : Nat → α
  | 0 => x
  | 1 => y
  | _ => z
theorem cb_d2_le {p q A B : Nat} (hA : A ≤ 100) (hB : B ≤ 100) (j : Nat) : cb_d2 p q A B j ≤ 1000000 := by
  unfold cb_d2 cb_d1
  repeat' split
  all_goals omega
theorem cb_d3_le {p q A B : Nat} (hA : A ≤ 100) (hB : B ≤ 100) (j : Nat) : cb_d3 p q A B j ≤ 1000000 := by
  unfold cb_d3 cb_d2 cb_d1
  repeat' split
  all_goals omega
theorem cb_sf_two {post : St2 → Prop} {set wo : Int32} {p q : Nat} {w : Nat → Nat} (G : cb_G 2 p q w a1 a2 a3)
    (hc : ∀ e, e < 2 → (((set >>> (nI e &&& 31)) &&& 1) = 1 ↔ decide (e = 1) = true)) (hwo : ∀ e, e < 2 → ¬ nI e = wo)
    (H : ∀ D W dn, D (p + 7) = nI (w 0 + w 1) → W (p + 7) = 3 → post (nI 2, r, f, bw, bs, a1, a2, a3, a4, a5, a6, a7, D, W, dn, a11)) :
    wpX_searchFrom post (nI 2, r, f, bw, bs, a1, a2, a3, a4, a5, a6, a7, a8, a9, a10, a11) (nI p) set wo := by
  have hp : p < 7 := G.2.1
  have hq : q < 7 := G.2.2.1
  have hn : p ≠ q := G.2.2.2.1
  obtain ⟨_, _, l0, u0⟩ := G.2.2.2.2 0 (by omega)
  obtain ⟨_, _, l1, u1⟩ := G.2.2.2.2 1 (by omega)
  obtain ⟨y1, y2, y3, y4, y5, y6, y7, y8⟩ := cb_y_eval hp hq hn
  obtain ⟨A, hA⟩ : ∃ A, w 0 = A := ⟨_, rfl⟩
  obtain ⟨B, hB⟩ : ∃ B, w 1 = B := ⟨_, rfl⟩
  rw [hA] at l0 u0
  rw [hB] at l1 u1
  rw [hA, hB] at H
  have z1 : cb_d0 p p = 0 := if_pos rfl
  have z2 : cb_d0 p q = 1000000 := if_neg (by omega)
  have k1 : cb_d1 p q A p = 0 := by unfold cb_d1; (repeat' split) <;> omega
  have k2 : cb_d1 p q A (q + 7) = 1000000 := by unfold cb_d1; (repeat' split) <;> omega
  have m1 : cb_d2 p q A B p = 0 := by unfold cb_d2 cb_d1; (repeat' split) <;> omega
  have m2 : cb_d2 p q A B q = A := by unfold cb_d2 cb_d1; (repeat' split) <;> omega
  have m3 : cb_d2 p q A B (q + 7) = B := by unfold cb_d2 cb_d1; (repeat' split) <;> omega
  have m4 : cb_d2 p q A B (p + 7) = 1000000 := by unfold cb_d2 cb_d1; (repeat' split) <;> omega
  have n1 : cb_d3 p q A B p = 0 := by unfold cb_d3 cb_d2 cb_d1; (repeat' split) <;> omega
  have n2 : cb_d3 p q A B q = A := by unfold cb_d3 cb_d2 cb_d1; (repeat' split) <;> omega
  have n3 : cb_d3 p q A B (q + 7) = B := by unfold cb_d3 cb_d2 cb_d1; (repeat' split) <;> omega
  have n4 : cb_d3 p q A B (p + 7) = A + B := by unfold cb_d3 cb_d2 cb_d1; (repeat' split) <;> omega
  have b1 := @cb_d1_le p q A u0
  have b2 := @cb_d2_le p q A B u0 u1
  have b3 := @cb_d3_le p q A B u0 u1
  have s0 : ∀ x, x < 14 → cb_e p q A false wo x 0 (cb_d3 p q A B) (cb_d3 p q A B) (cb_w3 p q) (cb_w3 p q) := by
    intro x hx
    refine cb_st hp hq b3 (fun _ => ?_) hx
    rw [y1, y3, y5, y7, n1, n2, n3, n4]
    omega
  have s1 : ∀ x, x < 14 → cb_e p q B true wo x 1 (cb_d3 p q A B) (cb_d3 p q A B) (cb_w3 p q) (cb_w3 p q) := by
    intro x hx
    refine cb_st hp hq b3 (fun _ => ?_) hx
    rw [y2, y4, y6, y8, n1, n2, n3, n4]
    omega
  have v1 : cb_w2 q q = 1 := by
    unfold cb_w2 cb_w1
    rw [if_neg (by omega), if_pos rfl]
  have v2 : cb_w2 q (q + 7) = 2 := if_pos rfl
  have two : ∀ {e : Nat}, e < 2 → e = 0 ∨ e = 1 := fun h => by omega
  have last : ∀ (D W dn : Nat → Int32) (z : Int32), cb_K D W (cb_d3 p q A B) (cb_w3 p q) → cb_near D dn z → wX_searchFrom_54 post set wo 13 z (nI 2) (nI 2) r f bw bs a1 a2 a3 a4 a5 a6 a7 D W dn a11 := by
    intro D W dn z hk hz
    refine cb_54s (cr := fun e => decide (e = 1)) G hc (fun e x he hx => ?_) (fun D W dn h => H D W dn ?_ ?_) 13 2 z D W dn (by omega) (by omega) hk ?_
    · rcases two he with rfl | rfl
      · rw [hA]
        exact s0 x hx
      · rw [hB]
        exact s1 x hx
    · rw [(h (p + 7) (by omega)).1, n4]
    · rw [(h (p + 7) (by omega)).2]
      exact if_pos rfl
    · rcases hz with ⟨t, _⟩ | ⟨k, hk1, hk2, _⟩
      · exact Or.inl t
      · exact Or.inr ⟨k, hk1, hk2⟩
  refine cb_sf (by omega) (fun D W dn hk hdn => ?_)
  refine cb_54u (n := 14) (dd := cb_t3 (cb_d0 p) (cb_d1 p q A) (cb_d2 p q A B)) (vv := cb_t3 (fun _ => 0) (cb_w1 q) (cb_w2 q)) (cr := fun e => decide (e = 1)) G (by omega) (by omega) hc hk (fun e he => ?_) (fun D' W' z hk' hz => ?_)
  · rcases two he with rfl | rfl
    · rw [hA]
      refine cb_e_hit (d := cb_d0 p) (d' := cb_d1 p q A) (v := fun _ => 0) (v' := cb_w1 q) (cb_d0_le p) (hwo 0 (by omega)) (Or.inl (by omega)) y1 (by omega) (fun j => ?_) (fun j => rfl)
      rw [z1]
      show cb_d1 p q A j = if j = q then 0 + A else cb_d0 p j
      unfold cb_d1 cb_d0
      repeat' split
      all_goals omega
    · rw [hB]
      refine cb_e_hit (d := cb_d1 p q A) b1 (hwo 1 (by omega)) (Or.inl (by omega)) y2 (by omega) (fun j => ?_) (fun j => ?_)
      · rw [k1]
        show cb_d2 p q A B j = if j = q + 7 then 0 + B else cb_d1 p q A j
        unfold cb_d2
        repeat' split
        all_goals omega
      · show cb_w2 q j = if j = q + 7 then cb_w1 q p ^^^ ((1 : Int32) <<< (nI 1 &&& 31)) else cb_w1 q j
        have t : cb_w1 q p = 0 := if_neg hn
        rw [t]
        rfl
  · have hk2 : cb_K D' W' (cb_d2 p q A B) (cb_w2 q) := hk'
    have zq : z = nI q ∨ z = nI (q + 7) := by
      rcases hz with ⟨_, t⟩ | ⟨j, hj, hzj, hj0, hjl⟩
      · exfalso
        have t1 := t q (by omega) (by rw [pk_un (by omega)]; exact hdn q (by omega))
        rw [(hk2 q (by omega)).1, m2] at t1
        exact absurd t1 (nI_ge (b := 1000000) (show A < 1000000 by omega) (by decide))
      · by_cases jp : j = p
        · exfalso
          rw [jp, pk_us] at hj0
          exact absurd hj0 (by decide)
        · by_cases j1 : j = q
          · exact Or.inl (by rw [hzj, j1])
          · by_cases j2 : j = q + 7
            · exact Or.inr (by rw [hzj, j2])
            · exfalso
              have t1 : cb_d2 p q A B j = 1000000 := by unfold cb_d2 cb_d1; (repeat' split) <;> omega
              apply hjl
              rw [(hk2 j hj).1, t1]
              exact nI_le (Nat.le_refl 1000000) (by decide)
    rcases zq with hzq | hzq
    · rw [hzq]
      refine cb_54u (n := 13) (dd := cb_t3 (cb_d2 p q A B) (cb_d2 p q A B) (cb_d3 p q A B)) (vv := cb_t3 (cb_w2 q) (cb_w2 q) (cb_w3 p q)) (cr := fun e => decide (e = 1)) G (by omega) (by omega) hc hk2 (fun e he => ?_) (fun D3 W3 z3 hk3 hz3 => last D3 W3 _ z3 hk3 hz3)
      rcases two he with rfl | rfl
      · rw [hA]
        exact cb_e_no (d := cb_d2 p q A B) b2 y3 (by omega)
      · rw [hB]
        refine cb_e_hit (d := cb_d2 p q A B) b2 (hwo 1 (by omega)) (Or.inr (by omega)) y4 (by omega) (fun j => ?_) (fun j => ?_)
        · rw [m2]
          rfl
        · show cb_w3 p q j = if j = p + 7 then cb_w2 q q ^^^ ((1 : Int32) <<< (nI 1 &&& 31)) else cb_w2 q j
          rw [v1]
          rfl
    · rw [hzq]
      refine cb_54u (n := 13) (dd := cb_t3 (cb_d2 p q A B) (cb_d3 p q A B) (cb_d3 p q A B)) (vv := cb_t3 (cb_w2 q) (cb_w3 p q) (cb_w3 p q)) (cr := fun e => decide (e = 1)) G (by omega) (by omega) hc hk2 (fun e he => ?_) (fun D3 W3 z3 hk3 hz3 => last D3 W3 _ z3 hk3 hz3)
      rcases two he with rfl | rfl
      · rw [hA]
        refine cb_e_hit (d := cb_d2 p q A B) b2 (hwo 0 (by omega)) (Or.inr (by omega)) y7 (by omega) (fun j => ?_) (fun j => ?_)
        · rw [m3, Nat.add_comm B A]
          rfl
        · show cb_w3 p q j = if j = p + 7 then cb_w2 q (q + 7) ^^^ ((1 : Int32) <<< (nI 0 &&& 31)) else cb_w2 q j
          rw [v2]
          rfl
      · rw [hB]
        exact s1 (q + 7) (by omega)
end
end
section
/-! part 4: startWitnesses, lightest, addCycle, solve -/
section
variable {c r f bw bs : Int32} {a1 a2 a3 a4 a5 a6 a7 a8 a9 a10 a11 : Nat → Int32}
theorem cb_sw93 {post : St2 → Prop} {J : Int32 → Int32 → (Nat → Int32) → (Nat → Int32) → (Nat → Int32) → (Nat → Int32) → (Nat → Int32) → (Nat → Int32) → (Nat → Int32) → (Nat → Int32) → (Nat → Int32) → (Nat → Int32) → (Nat → Int32) → Prop} {u v e : Nat} (hu : u < 7) (hv : v < 7)
    (h4 : ∀ j, j < 7 → a4 j = nI j) (HJ : ∀ g : Nat → Int32, (∀ j, j < 7 → g j = if j = v then nI u else nI j) → J (nI (e + 1)) r a1 a2 a3 g a5 a6 a7 a8 a9 a10 a11) :
    ∃ n, wX_startWitnesses_93 post J (nI e) (nI u) (nI v) c r f bw bs n 0 a1 a2 a3 a4 a5 a6 a7 a8 a9 a10 a11 := by
  refine pk_loop (fun n i g => wX_startWitnesses_93 post J (nI e) (nI u) (nI v) c r f bw bs n (nI i) a1 a2 a3 g a5 a6 a7 a8 a9 a10 a11) (fun i g => (∀ j, j < i → g j = if j = v then nI u else nI j) ∧ (∀ j, i ≤ j → j < 7 → g j = nI j)) 7 0 a4 (by omega) ⟨fun j hj => absurd hj (by omega), fun j _ hj => h4 j hj⟩ ?_ ?_
  · intro n g h
    exact pk_le 7 7 (fun _ => nm_r (nI_1 e) (HJ g h.1)) (fun z => absurd z (by omega))
  · intro n i g hi h hw
    refine pk_le 7 i (fun z => absurd z (by omega)) (fun _ => ⟨pk_in i 7 hi, ?_⟩)
    rw [nI_clamp (show i < 2 ^ 31 by omega)]
    refine pk_eq i v (fun t => ⟨pk_in i 7 hi, nm_e (nm_r (nI_1 i) (hw (upd g i (nI u)) ⟨fun j hj => ?_, fun j h1 h2 => ?_⟩))⟩) (fun t => nm_r (nI_1 i) (hw g ⟨fun j hj => ?_, fun j h1 h2 => h.2 j (by omega) h2⟩)) (h.2 i (by omega) hi)
    · by_cases ej : j = i
      · rw [ej, pk_us, if_pos t]
      · rw [pk_un ej]
        exact h.1 j (by omega)
    · rw [pk_un (by omega)]
      exact h.2 j (by omega) h2
    · by_cases ej : j = i
      · rw [ej, if_neg t]
        exact h.2 i (by omega) hi
      · exact h.1 j (by omega)
theorem cb_sw7 {post : St2 → Prop} (H : ∀ g : Nat → Int32, (∀ j, j < 7 → g j = nI j) → ∃ n, wX_startWitnesses_28 post c f bw bs n (nI 0) (nI 0) a1 a2 a3 g a5 a6 a7 a8 a9 a10 a11) :
    wpX_startWitnesses post (c, r, f, bw, bs, a1, a2, a3, a4, a5, a6, a7, a8, a9, a10, a11) := by
  refine pk_loop (fun n i g => wX_startWitnesses_7 post c 0 f bw bs n (nI i) a1 a2 a3 g a5 a6 a7 a8 a9 a10 a11) (fun i g => ∀ j, j < i → g j = nI j) 7 0 a4 (by omega) (fun j hj => absurd hj (by omega)) ?_ ?_
  · intro n g h
    exact pk_le 7 7 (fun _ => H g h) (fun z => absurd z (by omega))
  · intro n i g hi h hw
    refine pk_le 7 i (fun z => absurd z (by omega)) (fun _ => ?_)
    rw [nI_clamp (show i < 2 ^ 31 by omega)]
    refine ⟨pk_in i 7 hi, nm_e (nm_r (nI_1 i) (hw (upd g i (nI i)) (fun j hj => ?_)))⟩
    by_cases ej : j = i
    · rw [ej, pk_us]
    · rw [pk_un ej]
      exact h j (by omega)
theorem cb_sw28_end {post : St2 → Prop} {n C : Nat} (hC : C ≤ 12) (H : post (nI C, r, f, bw, bs, a1, a2, a3, a4, a5, a6, a7, a8, a9, a10, a11)) : wX_startWitnesses_28 post (nI C) f bw bs (n + 1) (nI C) r a1 a2 a3 a4 a5 a6 a7 a8 a9 a10 a11 :=
  pk_le C C (fun _ => H) (fun z => absurd z (by omega))
theorem cb_sw28_ne {post : St2 → Prop} {n C e u v : Nat} (hC : C ≤ 12) (he : e < C) (hu : u < 7) (hv : v < 7) (hn : u ≠ v) (h1 : a1 e = nI u) (h2 : a2 e = nI v) (h4 : ∀ j, j < 7 → a4 j = nI j)
    (H : ∀ g : Nat → Int32, (∀ j, j < 7 → g j = if j = v then nI u else nI j) → wX_startWitnesses_28 post (nI C) f bw bs n (nI (e + 1)) r a1 a2 a3 g a5 a6 a7 a8 a9 a10 a11) :
    wX_startWitnesses_28 post (nI C) f bw bs (n + 1) (nI e) r a1 a2 a3 a4 a5 a6 a7 a8 a9 a10 a11 := by
  refine pk_le C e (fun z => absurd z (by omega)) (fun _ => ?_)
  rw [nI_clamp (show e < 2 ^ 31 by omega), h1, h2, nI_clamp (show u < 2 ^ 31 by omega), nI_clamp (show v < 2 ^ 31 by omega), h4 u hu, h4 v hv]
  exact ⟨pk_in e 12 (by omega), pk_in u 7 hu, nm_e ⟨pk_in e 12 (by omega), pk_in v 7 hv, nm_e (pk_eq u v (fun z => absurd z hn) (fun _ => cb_sw93 hu hv h4 H))⟩⟩
theorem cb_sw28_eq {post : St2 → Prop} {n C e k u v : Nat} (hC : C ≤ 12) (he : e < C) (hk : k < 12) (hu : u < 7) (hv : v < 7) (h1 : a1 e = nI u) (h2 : a2 e = nI v) (h4 : a4 u = a4 v)
    (H : wX_startWitnesses_28 post (nI C) f bw bs n (nI (e + 1)) (nI (k + 1)) a1 a2 a3 a4 (upd a5 k ((1 : Int32) <<< (nI e &&& 31))) a6 a7 a8 a9 a10 a11) :
    wX_startWitnesses_28 post (nI C) f bw bs (n + 1) (nI e) (nI k) a1 a2 a3 a4 a5 a6 a7 a8 a9 a10 a11 := by
  refine pk_le C e (fun z => absurd z (by omega)) (fun _ => ?_)
  rw [nI_clamp (show e < 2 ^ 31 by omega), h1, h2, nI_clamp (show u < 2 ^ 31 by omega), nI_clamp (show v < 2 ^ 31 by omega), nI_clamp (show k < 2 ^ 31 by omega)]
  exact ⟨pk_in e 12 (by omega), pk_in u 7 hu, nm_e ⟨pk_in e 12 (by omega), pk_in v 7 hv, nm_e (br_t h4 ⟨pk_in k 12 hk, nm_e (nm_r (nI_1 k) (nm_r (nI_1 e) H))⟩)⟩⟩
/-- the ring: u to v of weight A, v to u of weight B -/
def cb_R (u v A B : Nat) (a1 a2 a3 : Nat → Int32) : Prop := (u < 7 ∧ v < 7 ∧ u ≠ v) ∧ (1 ≤ A ∧ A ≤ 100 ∧ 1 ≤ B ∧ B ≤ 100) ∧ (a1 0 = nI u ∧ a2 0 = nI v ∧ a3 0 = nI A) ∧ (a1 1 = nI v ∧ a2 1 = nI u ∧ a3 1 = nI B)
/-- at most one edge -/
def cb_S (C u v A : Nat) (a1 a2 a3 : Nat → Int32) : Prop := C ≤ 1 ∧ (u < 7 ∧ v < 7 ∧ u ≠ v) ∧ (1 ≤ A ∧ A ≤ 100) ∧ (C = 1 → a1 0 = nI u ∧ a2 0 = nI v ∧ a3 0 = nI A)
def cb_w (A B : Nat) : Nat → Nat := cb_t3 A B 0
theorem cb_R_G {u v A B : Nat} (R : cb_R u v A B a1 a2 a3) : cb_G 2 u v (cb_w A B) a1 a2 a3 := by
  obtain ⟨⟨hu, hv, hn⟩, ⟨h1, h2, h3, h4⟩, ⟨k1, k2, k3⟩, ⟨m1, m2, m3⟩⟩ := R
  refine ⟨by omega, hu, hv, hn, fun e he => ?_⟩
  rcases (show e = 0 ∨ e = 1 by omega) with rfl | rfl
  · exact ⟨Or.inl ⟨k1, k2⟩, k3, h1, h2⟩
  · exact ⟨Or.inr ⟨m1, m2⟩, m3, h3, h4⟩
theorem cb_S_G {C u v A : Nat} (S : cb_S C u v A a1 a2 a3) : cb_G C u v (fun _ => A) a1 a2 a3 := by
  obtain ⟨hC, ⟨hu, hv, hn⟩, ⟨h1, h2⟩, h⟩ := S
  refine ⟨by omega, hu, hv, hn, fun e he => ?_⟩
  obtain ⟨k1, k2, k3⟩ := h (by omega)
  rcases (show e = 0 by omega) with rfl
  exact ⟨Or.inl ⟨k1, k2⟩, k3, h1, h2⟩
theorem cb_sw_ring {post : St2 → Prop} {u v A B : Nat} (R : cb_R u v A B a1 a2 a3) (H : ∀ g : Nat → Int32, post (nI 2, nI 1, f, bw, bs, a1, a2, a3, g, upd a5 0 2, a6, a7, a8, a9, a10, a11)) :
    wpX_startWitnesses post (nI 2, r, f, bw, bs, a1, a2, a3, a4, a5, a6, a7, a8, a9, a10, a11) := by
  obtain ⟨⟨hu, hv, hn⟩, _, ⟨k1, k2, k3⟩, ⟨m1, m2, m3⟩⟩ := R
  refine cb_sw7 (fun g hg => ⟨3, cb_sw28_ne (by omega) (by omega) hu hv hn k1 k2 hg (fun g' hg' => cb_sw28_eq (by omega) (by omega) (by omega) hv hu m1 m2 ?_ (cb_sw28_end (by omega) (H g')))⟩)
  rw [hg' v hv, hg' u hu, if_pos rfl, if_neg hn]
theorem cb_sw_sgl {post : St2 → Prop} {C u v A : Nat} (S : cb_S C u v A a1 a2 a3) (H : ∀ g : Nat → Int32, post (nI C, nI 0, f, bw, bs, a1, a2, a3, g, a5, a6, a7, a8, a9, a10, a11)) :
    wpX_startWitnesses post (nI C, r, f, bw, bs, a1, a2, a3, a4, a5, a6, a7, a8, a9, a10, a11) := by
  obtain ⟨hC, ⟨hu, hv, hn⟩, _, h⟩ := S
  rcases (show C = 0 ∨ C = 1 by omega) with e | e
  · subst e
    exact cb_sw7 (fun g hg => ⟨1, cb_sw28_end (by omega) (H g)⟩)
  · subst e
    obtain ⟨k1, k2, k3⟩ := h rfl
    exact cb_sw7 (fun g hg => ⟨2, cb_sw28_ne (by omega) (by omega) hu hv hn k1 k2 hg (fun g' _ => cb_sw28_end (by omega) (H g'))⟩)
theorem cb_bit2 : ∀ e, e < 2 → ((((2 : Int32) >>> (nI e &&& 31)) &&& 1) = 1 ↔ decide (e = 1) = true) := by decide +kernel
theorem cb_bit0 : ∀ e, e < 2 → ((((0 : Int32) >>> (nI e &&& 31)) &&& 1) = 1 ↔ false = true) := by decide +kernel
theorem cb_wom : ∀ e, e < 2 → ¬ nI e = -1 := by decide +kernel
theorem cb_light {post : St2 → Prop} {u v A B : Nat} {set : Int32} (R : cb_R u v A B a1 a2 a3) (hset : set = 2)
    (H : ∀ D W dn : Nat → Int32, post (nI 2, r, f, nI (A + B), 3, a1, a2, a3, a4, a5, a6, a7, D, W, dn, a11)) :
    wpX_lightest post (nI 2, r, f, bw, bs, a1, a2, a3, a4, a5, a6, a7, a8, a9, a10, a11) set := by
  subst hset
  have G := cb_R_G R
  obtain ⟨⟨hu, hv, hn⟩, ⟨l1, l2, l3, l4⟩, _, _⟩ := R
  have far : (1000000 : Int32) = nI 1000000 := rfl
  refine pk_loop (fun n i t => wX_lightest_13 post 2 n (nI i) (nI 2) r f t.1 t.2.1 a1 a2 a3 a4 a5 a6 a7 t.2.2.1 t.2.2.2.1 t.2.2.2.2 a11) (fun i t => (t.1 = 1000000 ∨ (t.1 = nI (A + B) ∧ t.2.1 = 3)) ∧ (u < i → t.1 = nI (A + B) ∧ t.2.1 = 3)) 7 0 (1000000, 0, a8, a9, a10) (by omega) ⟨Or.inl rfl, fun h => absurd h (by omega)⟩ ?_ ?_
  · intro n t h
    obtain ⟨x1, x2, x3, x4, x5⟩ := t
    obtain ⟨q1, q2⟩ := h.2 hu
    have q1' : x1 = nI (A + B) := q1
    have q2' : x2 = 3 := q2
    subst q1' q2'
    exact pk_le 7 7 (fun _ => H x3 x4 x5) (fun z => absurd z (by omega))
  · intro n i t hi h hw
    obtain ⟨x1, x2, x3, x4, x5⟩ := t
    have h1 : x1 = 1000000 ∨ (x1 = nI (A + B) ∧ x2 = 3) := h.1
    have h2 : u < i → x1 = nI (A + B) ∧ x2 = 3 := h.2
    have e7 : nI i + 7 = nI (i + 7) := nI_add i 7
    refine pk_le 7 i (fun z => absurd z (by omega)) (fun _ => ?_)
    by_cases hi2 : i = u ∨ i = v
    · have main : ∀ D W dn : Nat → Int32, D (i + 7) = nI (A + B) → W (i + 7) = 3 → vp_in (nI i + 7) 14 ∧ (((x1 ≤ (D (nI i + 7).toNatClampNeg) → (∀ y : Int32, y = nI i + 1 → (wX_lightest_13 post 2 n y (nI 2) r f x1 x2 a1 a2 a3 a4 a5 a6 a7 D W dn a11))) ∧ (¬ x1 ≤ (D (nI i + 7).toNatClampNeg) → (vp_in (nI i + 7) 14 ∧ (∀ f_45 : Int32, f_45 = D (nI i + 7).toNatClampNeg → (vp_in (nI i + 7) 14 ∧ (∀ f_47 : Int32, f_47 = W (nI i + 7).toNatClampNeg → (∀ y : Int32, y = nI i + 1 → (wX_lightest_13 post 2 n y (nI 2) r f f_45 f_47 a1 a2 a3 a4 a5 a6 a7 D W dn a11))))))))) := by
        intro D W dn hD hW
        rw [e7, nI_clamp (show i + 7 < 2 ^ 31 by omega), hD, hW]
        refine ⟨pk_in (i + 7) 14 (by omega), ?_⟩
        rcases h1 with h1 | ⟨h1, h1'⟩
        · rw [h1]
          exact br_f (nI_ge (b := 1000000) (show A + B < 1000000 by omega) (by decide)) ⟨pk_in (i + 7) 14 (by omega), nm_e ⟨pk_in (i + 7) 14 (by omega), nm_e (nm_r (nI_1 i) (hw (nI (A + B), 3, D, W, dn) ⟨Or.inr ⟨rfl, rfl⟩, fun _ => ⟨rfl, rfl⟩⟩))⟩⟩
        · rw [h1, h1']
          exact br_t (nI_le (Nat.le_refl _) (by omega)) (nm_r (nI_1 i) (hw (nI (A + B), 3, D, W, dn) ⟨Or.inr ⟨rfl, rfl⟩, fun _ => ⟨rfl, rfl⟩⟩))
      rcases hi2 with hi2 | hi2
      · rw [hi2] at main ⊢
        exact cb_sf_two G cb_bit2 cb_wom main
      · rw [hi2] at main ⊢
        exact cb_sf_two (cb_G_sym G) cb_bit2 cb_wom main
    · have main : ∀ D W dn : Nat → Int32, cb_K D W (cb_d0 i) (fun _ => 0) → vp_in (nI i + 7) 14 ∧ (((x1 ≤ (D (nI i + 7).toNatClampNeg) → (∀ y : Int32, y = nI i + 1 → (wX_lightest_13 post 2 n y (nI 2) r f x1 x2 a1 a2 a3 a4 a5 a6 a7 D W dn a11))) ∧ (¬ x1 ≤ (D (nI i + 7).toNatClampNeg) → (vp_in (nI i + 7) 14 ∧ (∀ f_45 : Int32, f_45 = D (nI i + 7).toNatClampNeg → (vp_in (nI i + 7) 14 ∧ (∀ f_47 : Int32, f_47 = W (nI i + 7).toNatClampNeg → (∀ y : Int32, y = nI i + 1 → (wX_lightest_13 post 2 n y (nI 2) r f f_45 f_47 a1 a2 a3 a4 a5 a6 a7 D W dn a11))))))))) := by
        intro D W dn hk
        have hD : D (i + 7) = 1000000 := by
          rw [(hk (i + 7) (by omega)).1]
          unfold cb_d0
          rw [if_neg (by omega)]
          rfl
        rw [e7, nI_clamp (show i + 7 < 2 ^ 31 by omega), hD]
        refine ⟨pk_in (i + 7) 14 (by omega), br_t ?_ (nm_r (nI_1 i) (hw (x1, x2, D, W, dn) ⟨h1, fun z => h2 (by omega)⟩))⟩
        rcases h1 with h1 | ⟨h1, _⟩
        · rw [h1]
          decide
        · rw [h1, far]
          exact nI_le (by omega) (by decide)
      exact cb_sf_stay G hi cb_bit2 (fun _ _ _ => ⟨fun z => hi2 (Or.inl z), fun z => hi2 (Or.inr z)⟩) main
theorem cb_addc {post : St2 → Prop} {set wt : Int32} (H : post (c, r, nI 1, bw, bs, a1, a2, a3, a4, a5, upd a6 0 set, upd a7 0 wt, a8, a9, a10, a11)) :
    wpX_addCycle post (c, r, 0, bw, bs, a1, a2, a3, a4, a5, a6, a7, a8, a9, a10, a11) set wt :=
  ⟨1, br_t (by decide) ⟨pk_in 0 12 (by omega), nm_e ⟨pk_in 0 12 (by omega), nm_e (nm_r (e' := nI 1) (by decide) H)⟩⟩⟩
theorem cb_solve_ring {post : St2 → Prop} {u v A B : Nat} (R : cb_R u v A B a1 a2 a3)
    (H : ∀ (bw bs : Int32) (a4 a5 a6 a7 a8 a9 a10 : Nat → Int32), a6 0 = 3 → a7 0 = nI (A + B) → post (nI 2, nI 1, nI 1, bw, bs, a1, a2, a3, a4, a5, a6, a7, a8, a9, a10, a11)) :
    wpX_solve post (nI 2, r, f, bw, bs, a1, a2, a3, a4, a5, a6, a7, a8, a9, a10, a11) := by
  unfold wpX_solve
  refine cb_sw_ring R (fun g => ⟨2, ?_⟩)
  refine pk_le 1 0 (fun z => absurd z (by omega)) (fun _ => ⟨pk_in 0 12 (by omega), ?_⟩)
  refine cb_light R (by rfl) (fun D W dn => cb_addc ?_)
  refine nm_r (e' := nI 1) (by decide) ⟨1, pk_le 1 1 (fun _ => nm_r (e' := nI 1) (by decide) (pk_le 1 1 (fun _ => H _ _ _ _ _ _ _ _ _ pk_us pk_us) (fun z => absurd z (by omega)))) (fun z => absurd z (by omega))⟩
theorem cb_solve_sgl {post : St2 → Prop} {C u v A : Nat} (S : cb_S C u v A a1 a2 a3)
    (H : ∀ g : Nat → Int32, post (nI C, nI 0, 0, bw, bs, a1, a2, a3, g, a5, a6, a7, a8, a9, a10, a11)) :
    wpX_solve post (nI C, r, f, bw, bs, a1, a2, a3, a4, a5, a6, a7, a8, a9, a10, a11) := by
  unfold wpX_solve
  exact cb_sw_sgl S (fun g => ⟨1, pk_le 0 0 (fun _ => H g) (fun z => absurd z (by omega))⟩)
end
end
section
/-! part 5: the questions, over a ring and over at most one edge -/
section
variable {c r f bw bs : Int32} {a1 a2 a3 a4 a5 a6 a7 a8 a9 a10 a11 : Nat → Int32}
/-- post holds whatever the fields and arrays are that a question may change -/
def cb_any (post : St2 → Prop) (c : Int32) (a1 a2 a3 : Nat → Int32) : Prop := ∀ (r f bw bs : Int32) (a4 a5 a6 a7 a8 a9 a10 a11 : Nat → Int32), post (c, r, f, bw, bs, a1, a2, a3, a4, a5, a6, a7, a8, a9, a10, a11)
theorem cb_rank_ring {post : Int32 → St2 → Prop} {u v A B : Nat} (R : cb_R u v A B a1 a2 a3) (H : cb_any (post (nI 1)) (nI 2) a1 a2 a3) :
    wpX_rank post (nI 2, r, f, bw, bs, a1, a2, a3, a4, a5, a6, a7, a8, a9, a10, a11) := by
  unfold wpX_rank
  exact cb_sw_ring R (fun g => H _ _ _ _ _ _ _ _ _ _ _ _)
theorem cb_rank_sgl {post : Int32 → St2 → Prop} {C u v A : Nat} (S : cb_S C u v A a1 a2 a3) (H : cb_any (post (nI 0)) (nI C) a1 a2 a3) :
    wpX_rank post (nI C, r, f, bw, bs, a1, a2, a3, a4, a5, a6, a7, a8, a9, a10, a11) := by
  unfold wpX_rank
  exact cb_sw_sgl S (fun g => H _ _ _ _ _ _ _ _ _ _ _ _)
theorem cb_total_ring {post : Int32 → St2 → Prop} {u v A B : Nat} (R : cb_R u v A B a1 a2 a3) (H : cb_any (post (nI (A + B))) (nI 2) a1 a2 a3) :
    wpX_total post (nI 2, r, f, bw, bs, a1, a2, a3, a4, a5, a6, a7, a8, a9, a10, a11) := by
  unfold wpX_total
  refine cb_solve_ring R (fun bw bs a4 a5 a6 a7 a8 a9 a10 h6 h7 => ⟨2, ?_⟩)
  refine pk_le 1 0 (fun z => absurd z (by omega)) (fun _ => ⟨pk_in 0 12 (by omega), nm_r (e' := nI (A + B)) ?_ (nm_r (e' := nI 1) (by decide) (pk_le 1 1 (fun _ => H _ _ _ _ _ _ _ _ _ _ _ _) (fun z => absurd z (by omega))))⟩)
  rw [sb_cl0, h7, Int32.zero_add]
theorem cb_total_sgl {post : Int32 → St2 → Prop} {C u v A : Nat} (S : cb_S C u v A a1 a2 a3) (H : cb_any (post (nI 0)) (nI C) a1 a2 a3) :
    wpX_total post (nI C, r, f, bw, bs, a1, a2, a3, a4, a5, a6, a7, a8, a9, a10, a11) := by
  unfold wpX_total
  exact cb_solve_sgl S (fun g => ⟨1, pk_le 0 0 (fun _ => H _ _ _ _ _ _ _ _ _ _ _ _) (fun z => absurd z (by omega))⟩)
theorem cb_part_ring {post : Int32 → St2 → Prop} {u v A B : Nat} (R : cb_R u v A B a1 a2 a3) (H : cb_any (post (nI (A + B))) (nI 2) a1 a2 a3) :
    wpX_part post (nI 2, r, f, bw, bs, a1, a2, a3, a4, a5, a6, a7, a8, a9, a10, a11) 0 := by
  unfold wpX_part
  refine cb_solve_ring R (fun bw bs a4 a5 a6 a7 a8 a9 a10 h6 h7 => ?_)
  refine br_f (by decide) (pk_lt 0 1 (fun _ => ⟨pk_in 0 12 (by omega), ?_⟩) (fun z => absurd z (by omega)))
  rw [sb_cl0, h7]
  exact H _ _ _ _ _ _ _ _ _ _ _ _
theorem cb_part_sgl {post : Int32 → St2 → Prop} {C u v A : Nat} (S : cb_S C u v A a1 a2 a3) (H : cb_any (post (-5)) (nI C) a1 a2 a3) :
    wpX_part post (nI C, r, f, bw, bs, a1, a2, a3, a4, a5, a6, a7, a8, a9, a10, a11) 0 := by
  unfold wpX_part
  exact cb_solve_sgl S (fun g => br_f (by decide) (br_f (by decide) (H _ _ _ _ _ _ _ _ _ _ _ _)))
theorem cb_wo0 : ∀ e, e < 2 → (¬ nI e = 0 ↔ e = 1) := by decide +kernel
theorem cb_wo1 : ∀ e, e < 2 → (¬ nI e = nI 1 ↔ e = 0) := by decide +kernel
theorem cb_d1_q {p q w : Nat} (hn : p ≠ q) : cb_d1 p q w q = w := by
  unfold cb_d1
  rw [if_neg (fun z => hn z.symm), if_pos rfl]
theorem cb_thr_ring {post : Int32 → St2 → Prop} {u v A B : Nat} (R : cb_R u v A B a1 a2 a3) (H : cb_any (post (nI (A + B))) (nI 2) a1 a2 a3) :
    wpX_through post (nI 2, r, f, bw, bs, a1, a2, a3, a4, a5, a6, a7, a8, a9, a10, a11) 0 := by
  have G := cb_R_G R
  obtain ⟨⟨hu, hv, hn⟩, ⟨l1, l2, l3, l4⟩, ⟨k1, k2, k3⟩, ⟨m1, m2, m3⟩⟩ := R
  unfold wpX_through
  refine br_f (by decide) (pk_lt 0 2 (fun _ => ?_) (fun z => absurd z (by omega)))
  refine br_t rfl ⟨pk_in 0 12 (by omega), ?_⟩
  rw [sb_cl0, k1]
  refine cb_sf_one (m := 1) G (by omega) cb_bit0 cb_wo0 (fun D W dn hD => ?_)
  dsimp only
  have hB : D v = nI B := by
    rw [hD v (by omega), cb_d1_q hn]
    rfl
  rw [k2, nI_clamp (show v < 2 ^ 31 by omega), hB, k3]
  refine ⟨pk_in 0 12 (by omega), pk_in v 14 (by omega), pk_lt B 1000000 (fun _ => ⟨pk_in 0 12 (by omega), pk_in v 14 (by omega), pk_in 0 12 (by omega), ?_⟩) (fun z => absurd z (by omega))⟩
  rw [nI_add, Nat.add_comm B A]
  exact H _ _ _ _ _ _ _ _ _ _ _ _
theorem cb_wos {C : Nat} (hC : C ≤ 1) {P : Nat → Prop} : ∀ e, e < C → ¬ nI e = 0 → P e := by
  intro e he h
  rcases (show e = 0 by omega) with rfl
  exact absurd rfl h
theorem cb_bits {C : Nat} (hC : C ≤ 1) : ∀ e, e < C → ((((0 : Int32) >>> (nI e &&& 31)) &&& 1) = 1 ↔ false = true) := fun e he => cb_bit0 e (by omega)
theorem cb_thr_sgl {post : Int32 → St2 → Prop} {C u v A : Nat} (S : cb_S C u v A a1 a2 a3) (H : cb_any (post (if C = 0 then -4 else -5)) (nI C) a1 a2 a3) :
    wpX_through post (nI C, r, f, bw, bs, a1, a2, a3, a4, a5, a6, a7, a8, a9, a10, a11) 0 := by
  have G := cb_S_G S
  obtain ⟨hC, ⟨hu, hv, hn⟩, ⟨l1, l2⟩, h⟩ := S
  unfold wpX_through
  refine br_f (by decide) (pk_lt 0 C (fun hc => ?_) (fun z => ?_))
  · obtain ⟨k1, k2, k3⟩ := h (by omega)
    rw [if_neg (show ¬ C = 0 by omega)] at H
    refine br_t rfl ⟨pk_in 0 12 (by omega), ?_⟩
    rw [sb_cl0, k1]
    refine cb_sf_stay (cr := fun _ => false) G hu (cb_bits hC) (cb_wos hC) (fun D W dn hD => ?_)
    dsimp only
    have hB : D v = nI 1000000 := by
      rw [(hD v (by omega)).1]
      unfold cb_d0
      rw [if_neg (fun z => hn z.symm)]
    rw [k2, nI_clamp (show v < 2 ^ 31 by omega), hB]
    exact ⟨pk_in 0 12 (by omega), pk_in v 14 (by omega), br_f (by decide) (H _ _ _ _ _ _ _ _ _ _ _ _)⟩
  · rw [if_pos (show C = 0 by omega)] at H
    exact br_f (by decide) (H _ _ _ _ _ _ _ _ _ _ _ _)
theorem cb_bri_ring {post : Int32 → St2 → Prop} {u v A B : Nat} (R : cb_R u v A B a1 a2 a3) (H : cb_any (post 0) (nI 2) a1 a2 a3) :
    wpX_bridges post (nI 2, r, f, bw, bs, a1, a2, a3, a4, a5, a6, a7, a8, a9, a10, a11) := by
  have G := cb_R_G R
  obtain ⟨⟨hu, hv, hn⟩, ⟨l1, l2, l3, l4⟩, ⟨k1, k2, k3⟩, ⟨m1, m2, m3⟩⟩ := R
  refine ⟨3, pk_le 2 0 (fun z => absurd z (by omega)) (fun _ => ⟨pk_in 0 12 (by omega), ?_⟩)⟩
  rw [sb_cl0, k1]
  refine cb_sf_one (m := 1) G (by omega) cb_bit0 cb_wo0 (fun D W dn hD => ?_)
  dsimp only
  have hB : D v = nI B := by
    rw [hD v (by omega), cb_d1_q hn]
    rfl
  rw [k2, nI_clamp (show v < 2 ^ 31 by omega), hB]
  refine ⟨pk_in 0 12 (by omega), pk_in v 14 (by omega), pk_lt B 1000000 (fun _ => nm_r (e' := nI 1) (by decide) ?_) (fun z => absurd z (by omega))⟩
  refine pk_le 2 1 (fun z => absurd z (by omega)) (fun _ => ⟨pk_in 1 12 (by omega), ?_⟩)
  rw [nI_clamp (show 1 < 2 ^ 31 by omega), m1]
  refine cb_sf_one (m := 0) (cb_G_sym G) (by omega) cb_bit0 cb_wo1 (fun D W dn hD => ?_)
  dsimp only
  have hA : D u = nI A := by
    rw [hD u (by omega), cb_d1_q hn.symm]
    rfl
  rw [m2, nI_clamp (show u < 2 ^ 31 by omega), hA]
  exact ⟨pk_in 1 12 (by omega), pk_in u 14 (by omega), pk_lt A 1000000 (fun _ => nm_r (e' := nI 2) (by decide) (pk_le 2 2 (fun _ => H _ _ _ _ _ _ _ _ _ _ _ _) (fun z => absurd z (by omega)))) (fun z => absurd z (by omega))⟩
theorem cb_bri_sgl {post : Int32 → St2 → Prop} {C u v A : Nat} (S : cb_S C u v A a1 a2 a3) (H : cb_any (post (nI C)) (nI C) a1 a2 a3) :
    wpX_bridges post (nI C, r, f, bw, bs, a1, a2, a3, a4, a5, a6, a7, a8, a9, a10, a11) := by
  have G := cb_S_G S
  obtain ⟨hC, ⟨hu, hv, hn⟩, ⟨l1, l2⟩, h⟩ := S
  rcases (show C = 0 ∨ C = 1 by omega) with e | e
  · subst e
    exact ⟨1, pk_le 0 0 (fun _ => H _ _ _ _ _ _ _ _ _ _ _ _) (fun z => absurd z (by omega))⟩
  · subst e
    obtain ⟨k1, k2, k3⟩ := h rfl
    refine ⟨2, pk_le 1 0 (fun z => absurd z (by omega)) (fun _ => ⟨pk_in 0 12 (by omega), ?_⟩)⟩
    rw [sb_cl0, k1]
    refine cb_sf_stay (cr := fun _ => false) G hu (cb_bits hC) (cb_wos hC) (fun D W dn hD => ?_)
    dsimp only
    have hB : D v = nI 1000000 := by
      rw [(hD v (by omega)).1]
      unfold cb_d0
      rw [if_neg (fun z => hn z.symm)]
    rw [k2, nI_clamp (show v < 2 ^ 31 by omega), hB]
    exact ⟨pk_in 0 12 (by omega), pk_in v 14 (by omega), br_f (by decide) (nm_r (e' := nI 1) (by decide) (nm_r (e' := nI 1) (by decide) (pk_le 1 1 (fun _ => H _ _ _ _ _ _ _ _ _ _ _ _) (fun z => absurd z (by omega)))))⟩
/-! closed -/
theorem cb_x1 : ∀ u, u < 7 → ∀ v, v < 7 → u ≠ v → ¬ (0 : Int32) ^^^ (((1 : Int32) <<< (nI u &&& 31)) ^^^ ((1 : Int32) <<< (nI v &&& 31))) = 0 := by decide +kernel
theorem cb_x2 : ∀ u, u < 7 → ∀ v, v < 7 → ((0 : Int32) ^^^ (((1 : Int32) <<< (nI u &&& 31)) ^^^ ((1 : Int32) <<< (nI v &&& 31)))) ^^^ (((1 : Int32) <<< (nI v &&& 31)) ^^^ ((1 : Int32) <<< (nI u &&& 31))) = 0 := by decide +kernel
theorem cb_closed_ring {post : Int32 → Prop} {u v A B : Nat} {mask : Int32} (R : cb_R u v A B a1 a2 a3) (H : post (if mask = 0 ∨ mask = 3 then 1 else 0)) :
    wpX_closed post (nI 2, r, f, bw, bs, a1, a2, a3, a4, a5, a6, a7, a8, a9, a10, a11) mask := by
  obtain ⟨⟨hu, hv, hn⟩, ⟨l1, l2, l3, l4⟩, ⟨k1, k2, k3⟩, ⟨m1, m2, m3⟩⟩ := R
  by_cases hm : mask < 0
  · have t : ¬ (mask = 0 ∨ mask = 3) := by
      rintro (e | e)
      · rw [e] at hm
        exact absurd hm (by decide)
      · rw [e] at hm
        exact absurd hm (by decide)
    rw [if_neg t] at H
    exact br_t hm H
  · obtain ⟨m, hm31, rfl⟩ := nI_of hm
    refine br_f hm ?_
    have es : nI m >>> (nI 2 &&& 31) = nI (m / 4) := pk_shrN hm31 (nI 2 &&& 31) 2 (by decide)
    refine pk_eq (m / 4) 0 (fun z => ?_) (fun z => ?_) es
    · have c4 : m = 0 ∨ m = 1 ∨ m = 2 ∨ m = 3 := by omega
      refine ⟨3, pk_le 2 0 (fun z => absurd z (by omega)) (fun _ => ?_)⟩
      rw [sb_cl0, k1, k2]
      rcases c4 with e | e | e | e
      · subst e
        rw [if_pos (by decide)] at H
        exact br_f (by decide) (nm_r (e' := nI 1) (by decide) (pk_le 2 1 (fun z => absurd z (by omega)) (fun _ => br_f (by decide) (nm_r (e' := nI 2) (by decide) (pk_le 2 2 (fun _ => br_t rfl H) (fun z => absurd z (by omega)))))))
      · subst e
        rw [if_neg (by decide)] at H
        exact br_t (by decide) ⟨pk_in 0 12 (by omega), pk_in 0 12 (by omega), nm_e (nm_r (e' := nI 1) (by decide) (pk_le 2 1 (fun z => absurd z (by omega)) (fun _ => br_f (by decide) (nm_r (e' := nI 2) (by decide) (pk_le 2 2 (fun _ => br_f (cb_x1 u hu v hv hn) H) (fun z => absurd z (by omega)))))))⟩
      · subst e
        rw [if_neg (by decide)] at H
        refine br_f (by decide) (nm_r (e' := nI 1) (by decide) (pk_le 2 1 (fun z => absurd z (by omega)) (fun _ => ?_)))
        rw [nI_clamp (show 1 < 2 ^ 31 by omega), m1, m2]
        exact br_t (by decide) ⟨pk_in 1 12 (by omega), pk_in 1 12 (by omega), nm_e (nm_r (e' := nI 2) (by decide) (pk_le 2 2 (fun _ => br_f (cb_x1 v hv u hu hn.symm) H) (fun z => absurd z (by omega))))⟩
      · subst e
        rw [if_pos (by decide)] at H
        refine br_t (by decide) ⟨pk_in 0 12 (by omega), pk_in 0 12 (by omega), nm_e (nm_r (e' := nI 1) (by decide) (pk_le 2 1 (fun z => absurd z (by omega)) (fun _ => ?_)))⟩
        rw [nI_clamp (show 1 < 2 ^ 31 by omega), m1, m2]
        exact br_t (by decide) ⟨pk_in 1 12 (by omega), pk_in 1 12 (by omega), nm_e (nm_r (e' := nI 2) (by decide) (pk_le 2 2 (fun _ => br_t (cb_x2 u hu v hv) H) (fun z => absurd z (by omega))))⟩
    · have t : ¬ (nI m = 0 ∨ nI m = 3) := by
        rintro (e | e)
        · have := (nI_eq hm31 (show 0 < 2 ^ 31 by omega)).mp e
          omega
        · have := (nI_eq hm31 (show 3 < 2 ^ 31 by omega)).mp e
          omega
      rw [if_neg t] at H
      exact H
theorem cb_closed_sgl {post : Int32 → Prop} {C u v A : Nat} {mask : Int32} (S : cb_S C u v A a1 a2 a3) (H : post (if mask = 0 then 1 else 0)) :
    wpX_closed post (nI C, r, f, bw, bs, a1, a2, a3, a4, a5, a6, a7, a8, a9, a10, a11) mask := by
  obtain ⟨hC, ⟨hu, hv, hn⟩, ⟨l1, l2⟩, h⟩ := S
  by_cases hm : mask < 0
  · have t : ¬ (mask = 0) := by
      intro e
      rw [e] at hm
      exact absurd hm (by decide)
    rw [if_neg t] at H
    exact br_t hm H
  · obtain ⟨m, hm31, rfl⟩ := nI_of hm
    refine br_f hm ?_
    rcases (show C = 0 ∨ C = 1 by omega) with e | e
    · subst e
      have es : nI m >>> (nI 0 &&& 31) = nI (m / 1) := pk_shrN hm31 (nI 0 &&& 31) 0 (by decide)
      refine pk_eq (m / 1) 0 (fun z => ?_) (fun z => ?_) es
      · rw [if_pos (show nI m = 0 by rw [show m = 0 by omega]; rfl)] at H
        exact ⟨1, pk_le 0 0 (fun _ => br_t rfl H) (fun z => absurd z (by omega))⟩
      · have t : ¬ nI m = 0 := nI_ne0 (by omega) hm31
        rw [if_neg t] at H
        exact H
    · subst e
      obtain ⟨k1, k2, k3⟩ := h rfl
      have es : nI m >>> (nI 1 &&& 31) = nI (m / 2) := pk_shrN hm31 (nI 1 &&& 31) 1 (by decide)
      refine pk_eq (m / 2) 0 (fun z => ?_) (fun z => ?_) es
      · refine ⟨2, pk_le 1 0 (fun z => absurd z (by omega)) (fun _ => ?_)⟩
        rw [sb_cl0, k1, k2]
        rcases (show m = 0 ∨ m = 1 by omega) with e | e
        · subst e
          rw [if_pos (by decide)] at H
          exact br_f (by decide) (nm_r (e' := nI 1) (by decide) (pk_le 1 1 (fun _ => br_t rfl H) (fun z => absurd z (by omega))))
        · subst e
          rw [if_neg (by decide)] at H
          exact br_t (by decide) ⟨pk_in 0 12 (by omega), pk_in 0 12 (by omega), nm_e (nm_r (e' := nI 1) (by decide) (pk_le 1 1 (fun _ => br_f (cb_x1 u hu v hv hn) H) (fun z => absurd z (by omega))))⟩
      · have t : ¬ nI m = 0 := nI_ne0 (by omega) hm31
        rw [if_neg t] at H
        exact H
/-! level -/
def cb_rd (p : Nat → Int32) : Nat → Int32 → Int32
  | 0, s => s
  | e + 1, s => cb_rd p e (if ((s >>> (nI e &&& 31)) &&& 1) = 1 then (if p e = 0 then s else s ^^^ p e) else s)
theorem cb_red5 {post : Int32 → Prop} : ∀ (e : Nat) (s : Int32), e ≤ 12 → post (cb_rd a11 e s) → wX_reduce_5 post c r f bw bs a1 a2 a3 a4 a5 a6 a7 a8 a9 a10 a11 (e + 1) s (nI e + (-1)) := by
  intro e
  induction e with
  | zero =>
    intro s _ h
    exact br_t (by decide) h
  | succ e ih =>
    intro s he h
    rw [pk_m1]
    refine br_f (nI_pos (by omega)) ?_
    rw [nI_clamp (show e < 2 ^ 31 by omega)]
    have h' : post (cb_rd a11 e (if ((s >>> (nI e &&& 31)) &&& 1) = 1 then (if a11 e = 0 then s else s ^^^ a11 e) else s)) := h
    refine br_c (fun b => ⟨pk_in e 12 (by omega), br_c (fun z => ?_) (fun z => ⟨pk_in e 12 (by omega), ?_⟩)⟩) (fun b => ?_)
    · rw [if_pos b, if_pos z] at h'
      exact nm_e (ih s (by omega) h')
    · rw [if_pos b, if_neg z] at h'
      exact nm_e (nm_e (ih _ (by omega) h'))
    · rw [if_neg b] at h'
      exact nm_e (ih s (by omega) h')
theorem cb_red {post : Int32 → Prop} {s : Int32} (h : post (cb_rd a11 12 s)) : wpX_reduce post (c, r, f, bw, bs, a1, a2, a3, a4, a5, a6, a7, a8, a9, a10, a11) s :=
  ⟨13, cb_red5 12 s (by omega) h⟩
theorem cb_rd0 {p : Nat → Int32} : ∀ (e : Nat) (s : Int32), (∀ j, j < e → p j = 0) → cb_rd p e s = s := by
  intro e
  induction e with
  | zero => intro s _; rfl
  | succ e ih =>
    intro s h
    show cb_rd p e _ = s
    rw [if_pos (h e (by omega)), ite_self]
    exact ih s (fun j hj => h j (by omega))
theorem cb_3hi : ∀ e, e < 12 → 2 ≤ e → ¬ (((3 : Int32) >>> (nI e &&& 31)) &&& 1) = 1 := by decide +kernel
theorem cb_rd3 {p : Nat → Int32} (h1 : p 1 = 3) : cb_rd p 12 3 = 0 := by
  have t : ∀ k, k ≤ 10 → cb_rd p (2 + k) 3 = cb_rd p 2 3 := by
    intro k
    induction k with
    | zero => intro _; rfl
    | succ k ih =>
      intro hk
      show cb_rd p (2 + k) (if (((3 : Int32) >>> (nI (2 + k) &&& 31)) &&& 1) = 1 then (if p (2 + k) = 0 then 3 else 3 ^^^ p (2 + k)) else 3) = _
      rw [if_neg (cb_3hi (2 + k) (by omega) (by omega))]
      exact ih (by omega)
  have e2 : cb_rd p 12 3 = cb_rd p 2 3 := t 10 (by omega)
  rw [e2]
  show cb_rd p 1 (if (((3 : Int32) >>> (nI 1 &&& 31)) &&& 1) = 1 then (if p 1 = 0 then 3 else 3 ^^^ p 1) else 3) = 0
  rw [if_pos (by decide), h1, if_neg (by decide)]
  show (if ((((3 : Int32) ^^^ 3) >>> (nI 0 &&& 31)) &&& 1) = 1 then (if p 0 = 0 then (3 : Int32) ^^^ 3 else 3 ^^^ 3 ^^^ p 0) else 3 ^^^ 3) = 0
  rw [if_neg (by decide)]
  decide
theorem cb_high3 {post : Int32 → Prop} (H : post 1) : wpX_highest post () 3 :=
  ⟨12, br_f (by decide) (br_t (by decide) (nm_r (e' := 10) (by decide) (br_f (by decide) (br_t (by decide) (nm_r (e' := 9) (by decide) (br_f (by decide) (br_t (by decide) (nm_r (e' := 8) (by decide) (br_f (by decide) (br_t (by decide) (nm_r (e' := 7) (by decide) (br_f (by decide) (br_t (by decide) (nm_r (e' := 6) (by decide) (br_f (by decide) (br_t (by decide) (nm_r (e' := 5) (by decide) (br_f (by decide) (br_t (by decide) (nm_r (e' := 4) (by decide) (br_f (by decide) (br_t (by decide) (nm_r (e' := 3) (by decide) (br_f (by decide) (br_t (by decide) (nm_r (e' := 2) (by decide) (br_f (by decide) (br_t (by decide) (nm_r (e' := 1) (by decide) (br_f (by decide) (br_f (by decide) H)))))))))))))))))))))))))))))))⟩
theorem cb_level_ring {post : Int32 → St2 → Prop} {u v A B : Nat} {mask : Int32} (R : cb_R u v A B a1 a2 a3) (H : cb_any (post (if mask = 0 then 0 else if mask = 3 then nI (A + B) else -5)) (nI 2) a1 a2 a3) :
    wpX_level post (nI 2, r, f, bw, bs, a1, a2, a3, a4, a5, a6, a7, a8, a9, a10, a11) mask := by
  unfold wpX_level
  refine cb_closed_ring R ?_
  by_cases h0 : mask = 0
  · rw [if_pos h0] at H
    rw [if_pos (Or.inl h0)]
    exact br_f (by decide) (br_t h0 (H _ _ _ _ _ _ _ _ _ _ _ _))
  · by_cases h3 : mask = 3
    · rw [if_neg h0, if_pos h3] at H
      rw [if_pos (Or.inr h3)]
      refine br_f (by decide) (br_f h0 ?_)
      refine cb_solve_ring R (fun bw bs a4 a5 a6 a7 a8 a9 a10 h6 h7 => ?_)
      refine pk_loop (fun n i g => wX_level_25 post mask (nI 2) (nI 1) (nI 1) bw bs n (nI i) a1 a2 a3 a4 a5 a6 a7 a8 a9 a10 g) (fun i g => ∀ j, j < i → g j = 0) 12 0 a11 (by omega) (fun j hj => absurd hj (by omega)) ?_ ?_
      · intro n g h
        refine pk_le 12 12 (fun _ => ⟨1, ?_⟩) (fun z => absurd z (by omega))
        refine pk_le 1 0 (fun z => absurd z (by omega)) (fun _ => ⟨pk_in 0 12 (by omega), cb_red ?_⟩)
        rw [sb_cl0, h6, cb_rd0 12 3 h]
        refine cb_high3 (br_f (by decide) ⟨pk_in 1 12 (by omega), nm_r (e' := upd g 1 3) rfl ?_⟩)
        unfold wX_level_87
        refine cb_red ?_
        rw [h3, cb_rd3 pk_us]
        refine br_t rfl ⟨pk_in 0 12 (by omega), ?_⟩
        rw [sb_cl0, h7]
        exact H _ _ _ _ _ _ _ _ _ _ _ _
      · intro n i g hi h hw
        refine pk_le 12 i (fun z => absurd z (by omega)) (fun _ => ?_)
        rw [nI_clamp (show i < 2 ^ 31 by omega)]
        refine ⟨pk_in i 12 hi, nm_e (nm_r (nI_1 i) (hw (upd g i 0) (fun j hj => ?_)))⟩
        by_cases ej : j = i
        · rw [ej, pk_us]
        · rw [pk_un ej]
          exact h j (by omega)
    · rw [if_neg h0, if_neg h3] at H
      rw [if_neg (fun z => z.elim h0 h3)]
      exact br_t rfl (H _ _ _ _ _ _ _ _ _ _ _ _)
theorem cb_level_sgl {post : Int32 → St2 → Prop} {C u v A : Nat} {mask : Int32} (S : cb_S C u v A a1 a2 a3) (H : cb_any (post (if mask = 0 then 0 else -5)) (nI C) a1 a2 a3) :
    wpX_level post (nI C, r, f, bw, bs, a1, a2, a3, a4, a5, a6, a7, a8, a9, a10, a11) mask := by
  unfold wpX_level
  refine cb_closed_sgl S ?_
  by_cases h0 : mask = 0
  · rw [if_pos h0] at H
    rw [if_pos h0]
    exact br_f (by decide) (br_t h0 (H _ _ _ _ _ _ _ _ _ _ _ _))
  · rw [if_neg h0] at H
    rw [if_neg h0]
    exact br_t rfl (H _ _ _ _ _ _ _ _ _ _ _ _)
end
end
section
/-! part 6: the law -/
section
variable {c r f bw bs : Int32} {a1 a2 a3 a4 a5 a6 a7 a8 a9 a10 a11 : Nat → Int32}
theorem cb_edge_bad {post : Int32 → St2 → Prop} {u v : Nat} {x : Int32} (hu : u < 7) (hv : v < 7) (hn : u ≠ v) (hx : x < 1 ∨ ¬ x ≤ 100) (H : post (-2) (c, r, f, bw, bs, a1, a2, a3, a4, a5, a6, a7, a8, a9, a10, a11)) :
    wpX_edge post (c, r, f, bw, bs, a1, a2, a3, a4, a5, a6, a7, a8, a9, a10, a11) (nI u) (nI v) x := by
  unfold wpX_edge
  refine br_f (nI_pos (by omega)) (pk_lt u 7 (fun _ => br_t rfl ?_) (fun z => absurd z (by omega)))
  refine br_f (nI_pos (by omega)) (pk_lt v 7 (fun _ => br_t rfl ?_) (fun z => absurd z (by omega)))
  refine pk_eq u v (fun z => absurd z hn) (fun _ => ?_)
  rcases hx with hx | hx
  · exact br_t hx H
  · exact br_c (fun _ => H) (fun _ => br_f hx H)
theorem cb_edge_ok {post : Int32 → St2 → Prop} {u v A k : Nat} (hu : u < 7) (hv : v < 7) (hn : u ≠ v) (h1 : 1 ≤ A) (h2 : A ≤ 100) (hk : k < 12)
    (H : post (nI k) (nI (k + 1), r, f, bw, bs, upd a1 k (nI u), upd a2 k (nI v), upd a3 k (nI A), a4, a5, a6, a7, a8, a9, a10, a11)) :
    wpX_edge post (nI k, r, f, bw, bs, a1, a2, a3, a4, a5, a6, a7, a8, a9, a10, a11) (nI u) (nI v) (nI A) := by
  unfold wpX_edge
  refine br_f (nI_pos (by omega)) (pk_lt u 7 (fun _ => br_t rfl ?_) (fun z => absurd z (by omega)))
  refine br_f (nI_pos (by omega)) (pk_lt v 7 (fun _ => br_t rfl ?_) (fun z => absurd z (by omega)))
  refine pk_eq u v (fun z => absurd z hn) (fun _ => pk_lt A 1 (fun z => absurd z (by omega)) (fun _ => pk_le A 100 (fun _ => pk_lt k 12 (fun _ => ?_) (fun z => absurd z (by omega))) (fun z => absurd z (by omega))))
  rw [nI_clamp (show k < 2 ^ 31 by omega)]
  exact ⟨pk_in k 12 hk, nm_e ⟨pk_in k 12 hk, nm_e ⟨pk_in k 12 hk, nm_e (nm_r (nI_1 k) H)⟩⟩⟩
theorem cb_tail_ring {post : Int32 → St0 → Prop} {mc ms kc ks u v A B : Nat} {x4 : Int32} (hp : post 1 ()) (R : cb_R u v A B a1 a2 a3) :
    wL_lawOf_129 post mc ms (nI A) (nI B) x4 1 1 1 (nI 1) kc ks (nI 2) r f bw bs a1 a2 a3 a4 a5 a6 a7 a8 a9 a10 a11 := by
  have eAB : nI (A + B) = nI A + nI B := (nI_add A B).symm
  refine br_t rfl (br_f (by decide) (br_f (by decide) ?_))
  unfold wL_lawOf_149
  refine cb_rank_ring R (fun r f bw bs a4 a5 a6 a7 a8 a9 a10 a11 => br_f (by decide) (br_t rfl ?_))
  refine cb_total_ring R (fun r f bw bs a4 a5 a6 a7 a8 a9 a10 a11 => br_f (by decide) (br_t eAB ?_))
  refine cb_part_ring R (fun r f bw bs a4 a5 a6 a7 a8 a9 a10 a11 => br_f (by decide) (br_t eAB ?_))
  refine cb_thr_ring R (fun r f bw bs a4 a5 a6 a7 a8 a9 a10 a11 => br_f (by decide) (br_t eAB ?_))
  have K3 : ∀ (z : Int32) (r f bw bs : Int32) (a4 a5 a6 a7 a8 a9 a10 a11 : Nat → Int32), wL_lawOf_320 post mc ms 1 1 1 z z kc ks (nI 2) r f bw bs a1 a2 a3 a4 a5 a6 a7 a8 a9 a10 a11 := by
    intro z r f bw bs a4 a5 a6 a7 a8 a9 a10 a11
    exact br_t rfl (cb_bri_ring R (fun r f bw bs a4 a5 a6 a7 a8 a9 a10 a11 => br_f (by decide) (br_t rfl hp)))
  have K : ∀ z0 : Int32, z0 = (if x4 = 0 ∨ x4 = 3 then 1 else 0) → wL_lawOf_275 post mc ms (nI A) (nI B) x4 1 1 1 z0 kc ks (nI 2) r f bw bs a1 a2 a3 a4 a5 a6 a7 a8 a9 a10 a11 := by
    intro z0 hz
    unfold wL_lawOf_275
    refine cb_closed_ring R (br_t hz.symm (cb_level_ring R (fun r f bw bs a4 a5 a6 a7 a8 a9 a10 a11 => ?_)))
    by_cases h0 : x4 = 0
    · rw [if_pos (Or.inl h0)] at hz
      rw [hz, if_pos h0]
      exact br_f (by decide) (br_t h0 (K3 _ _ _ _ _ _ _ _ _ _ _ _ _))
    · by_cases h3 : x4 = 3
      · rw [if_pos (Or.inr h3)] at hz
        rw [hz, if_neg h0, if_pos h3, eAB]
        exact br_f (by decide) (br_f h0 (K3 _ _ _ _ _ _ _ _ _ _ _ _ _))
      · rw [if_neg (fun z => z.elim h0 h3)] at hz
        rw [hz, if_neg h0, if_neg h3]
        exact br_t rfl (K3 _ _ _ _ _ _ _ _ _ _ _ _ _)
  refine br_c (fun h => K 1 (by rw [if_pos (Or.inl h)])) (fun h => br_f (by decide) (br_c (fun h' => K 1 (by rw [if_pos (Or.inr h')])) (fun h' => K 0 (by rw [if_neg (fun z => z.elim h h')]))))
theorem cb_tail_sgl {post : Int32 → St0 → Prop} {mc ms kc ks C u v A : Nat} {x2 x3 x4 x8 x9 z : Int32} (hp : post 1 ()) (S : cb_S C u v A a1 a2 a3)
    (hx : (C = 0 ∧ x8 = 0 ∧ x9 = 0) ∨ (C = 1 ∧ ((x8 = 1 ∧ x9 = 0) ∨ (x8 = 0 ∧ x9 = 1)))) :
    wL_lawOf_129 post mc ms x2 x3 x4 x8 x9 z z kc ks (nI C) r f bw bs a1 a2 a3 a4 a5 a6 a7 a8 a9 a10 a11 := by
  have K3 : ∀ (z : Int32) (r f bw bs : Int32) (a4 a5 a6 a7 a8 a9 a10 a11 : Nat → Int32), wL_lawOf_320 post mc ms x8 x9 0 z z kc ks (nI C) r f bw bs a1 a2 a3 a4 a5 a6 a7 a8 a9 a10 a11 := by
    intro z r f bw bs a4 a5 a6 a7 a8 a9 a10 a11
    refine br_t rfl (cb_bri_sgl S (fun r f bw bs a4 a5 a6 a7 a8 a9 a10 a11 => br_t rfl ?_))
    rcases hx with ⟨e, e8, e9⟩ | ⟨e, ⟨e8, e9⟩ | ⟨e8, e9⟩⟩
    · exact br_t e8 (br_t e9 (br_t (by rw [e]; rfl) hp))
    · exact br_f (by rw [e8]; decide) (br_t (by rw [e]; rfl) hp)
    · exact br_t e8 (br_f (by rw [e9]; decide) (br_t (by rw [e]; rfl) hp))
  have K : ∀ (z0 : Int32) (r f bw bs : Int32) (a4 a5 a6 a7 a8 a9 a10 a11 : Nat → Int32), z0 = (if x4 = 0 then 1 else 0) → wL_lawOf_275 post mc ms x2 x3 x4 x8 x9 0 z0 kc ks (nI C) r f bw bs a1 a2 a3 a4 a5 a6 a7 a8 a9 a10 a11 := by
    intro z0 r f bw bs a4 a5 a6 a7 a8 a9 a10 a11 hz
    unfold wL_lawOf_275
    refine cb_closed_sgl S (br_t hz.symm (cb_level_sgl S (fun r f bw bs a4 a5 a6 a7 a8 a9 a10 a11 => ?_)))
    by_cases h0 : x4 = 0
    · rw [if_pos h0] at hz
      rw [hz, if_pos h0]
      exact br_f (by decide) (br_t h0 (K3 _ _ _ _ _ _ _ _ _ _ _ _ _))
    · rw [if_neg h0] at hz
      rw [hz, if_neg h0]
      exact br_t rfl (K3 _ _ _ _ _ _ _ _ _ _ _ _ _)
  have K2 : ∀ (z : Int32) (r f bw bs : Int32) (a4 a5 a6 a7 a8 a9 a10 a11 : Nat → Int32), wL_lawOf_249 post mc ms x2 x3 x4 x8 x9 0 z z kc ks (nI C) r f bw bs a1 a2 a3 a4 a5 a6 a7 a8 a9 a10 a11 := by
    intro z r f bw bs a4 a5 a6 a7 a8 a9 a10 a11
    exact br_t rfl (br_c (fun h => K 1 _ _ _ _ _ _ _ _ _ _ _ _ (by rw [if_pos h])) (fun h => br_t rfl (K 0 _ _ _ _ _ _ _ _ _ _ _ _ (by rw [if_neg h]))))
  have K1 : wL_lawOf_149 post mc ms x2 x3 x4 x8 x9 0 kc ks (nI C) r f bw bs a1 a2 a3 a4 a5 a6 a7 a8 a9 a10 a11 := by
    unfold wL_lawOf_149
    refine cb_rank_sgl S (fun r f bw bs a4 a5 a6 a7 a8 a9 a10 a11 => br_t rfl (br_t rfl ?_))
    refine cb_total_sgl S (fun r f bw bs a4 a5 a6 a7 a8 a9 a10 a11 => br_t rfl (br_t rfl ?_))
    refine cb_part_sgl S (fun r f bw bs a4 a5 a6 a7 a8 a9 a10 a11 => br_t rfl (br_t rfl ?_))
    refine cb_thr_sgl S (fun r f bw bs a4 a5 a6 a7 a8 a9 a10 a11 => br_t rfl ?_)
    rcases hx with ⟨e, e8, e9⟩ | ⟨e, ⟨e8, e9⟩ | ⟨e8, e9⟩⟩
    · rw [if_pos e]
      exact br_t e8 (br_t e9 (K2 _ _ _ _ _ _ _ _ _ _ _ _ _))
    · rw [if_neg (show ¬ C = 0 by omega)]
      exact br_f (by rw [e8]; decide) (K2 _ _ _ _ _ _ _ _ _ _ _ _ _)
    · rw [if_neg (show ¬ C = 0 by omega)]
      exact br_t e8 (br_f (by rw [e9]; decide) (K2 _ _ _ _ _ _ _ _ _ _ _ _ _))
  refine br_t rfl ?_
  rcases hx with ⟨e, e8, e9⟩ | ⟨e, ⟨e8, e9⟩ | ⟨e8, e9⟩⟩
  · exact br_t e8 K1
  · exact br_f (by rw [e8]; decide) (br_t e9 K1)
  · exact br_t e8 K1
/-- the law from its first edge on, the object new -/
theorem cb_71law {post : Int32 → St0 → Prop} {mc ms kc ks u v : Nat} {x2 x3 x4 x8 x9 : Int32} (hp : post 1 ()) (hu : u < 7) (hv : v < 7) (hn : u ≠ v)
    (h8 : (x8 = 0 ∧ (x2 < 1 ∨ ¬ x2 ≤ 100)) ∨ (x8 = 1 ∧ ∃ A : Nat, 1 ≤ A ∧ A ≤ 100 ∧ x2 = nI A)) (h9 : (x9 = 0 ∧ (x3 < 1 ∨ ¬ x3 ≤ 100)) ∨ (x9 = 1 ∧ ∃ B : Nat, 1 ≤ B ∧ B ≤ 100 ∧ x3 = nI B)) :
    wL_lawOf_71 post mc ms x2 x3 x4 (nI u) (nI v) x8 x9 kc ks (nI 0) r f bw bs a1 a2 a3 a4 a5 a6 a7 a8 a9 a10 a11 := by
  unfold wL_lawOf_71
  rcases h8 with ⟨e8, b8⟩ | ⟨e8, A, A1, A2, eA⟩
  · refine cb_edge_bad hu hv hn b8 (br_t e8 (br_t rfl ?_))
    rcases h9 with ⟨e9, b9⟩ | ⟨e9, B, B1, B2, eB⟩
    · exact cb_edge_bad hv hu hn.symm b9 (br_t e9 (cb_tail_sgl (u := u) (v := v) (A := 1) hp ⟨by omega, ⟨hu, hv, hn⟩, ⟨by omega, by omega⟩, fun z => absurd z (by omega)⟩ (Or.inl ⟨rfl, e8, e9⟩)))
    · subst eB
      exact cb_edge_ok hv hu hn.symm B1 B2 (by omega) (br_f (by rw [e9]; decide) (br_t e8 (cb_tail_sgl (u := v) (v := u) (A := B) hp ⟨by omega, ⟨hv, hu, hn.symm⟩, ⟨B1, B2⟩, fun _ => ⟨pk_us, pk_us, pk_us⟩⟩ (Or.inr ⟨rfl, Or.inr ⟨e8, e9⟩⟩))))
  · subst eA
    refine cb_edge_ok hu hv hn A1 A2 (by omega) (br_f (by rw [e8]; decide) (br_t rfl ?_))
    rcases h9 with ⟨e9, b9⟩ | ⟨e9, B, B1, B2, eB⟩
    · exact cb_edge_bad hv hu hn.symm b9 (br_t e9 (cb_tail_sgl (u := u) (v := v) (A := A) hp ⟨by omega, ⟨hu, hv, hn⟩, ⟨A1, A2⟩, fun _ => ⟨pk_us, pk_us, pk_us⟩⟩ (Or.inr ⟨rfl, Or.inl ⟨e8, e9⟩⟩)))
    · subst eB
      subst e8 e9
      exact cb_edge_ok hv hu hn.symm B1 B2 (by omega) (br_f (by decide) (br_f (by decide) (cb_tail_ring (u := u) (v := v) hp ⟨⟨hu, hv, hn⟩, ⟨A1, A2, B1, B2⟩, ⟨by rw [pk_un (by omega), pk_us], by rw [pk_un (by omega), pk_us], by rw [pk_un (by omega), pk_us]⟩, ⟨pk_us, pk_us, pk_us⟩⟩)))
theorem cb_wt {x : Int32} (h1 : ¬ x < 1) (h2 : ¬ 100 < x) : ∃ A : Nat, 1 ≤ A ∧ A ≤ 100 ∧ x = nI A := by
  have t1 : ¬ x < 0 := fun z => h1 (Int32.lt_trans z (by decide))
  obtain ⟨A, hA, e⟩ := nI_of2 (M := 100) (n := 100) (by decide) t1 (Int32.not_lt.mp h2)
  refine ⟨A, ?_, hA, e⟩
  rcases Nat.eq_zero_or_pos A with z | z
  · rw [e, z] at h1
    exact absurd (by decide) h1
  · exact z
theorem cb_lawOf {post : Int32 → St0 → Prop} {p0 p1 p2 p3 p4 : Int32} (hp : post 1 ()) : wpL_lawOf post 94 1504 () p0 p1 p2 p3 p4 := by
  obtain ⟨s, hs, es⟩ := pk_andE p0 (m := 1023) 10 (by decide)
  obtain ⟨t, ht, et⟩ := pk_andE p1 (m := 1023) 10 (by decide)
  have s7 : s % 7 < 7 := Nat.mod_lt _ (by omega)
  have t6 : t % 6 < 6 := Nat.mod_lt _ (by omega)
  have eu : (p0 &&& 1023) - (p0 &&& 1023) / 7 * 7 = nI (s % 7) := by
    rw [es]
    exact pk_rem (a := s) (d := 7) (by omega) (by omega) (by omega)
  have e6 : (p1 &&& 1023) - (p1 &&& 1023) / 6 * 6 = nI (t % 6) := by
    rw [et]
    exact pk_rem (a := t) (d := 6) (by omega) (by omega) (by omega)
  have ev : ((nI (s % 7) + 1) + nI (t % 6)) - ((nI (s % 7) + 1) + nI (t % 6)) / 7 * 7 = nI ((s % 7 + 1 + t % 6) % 7) := by
    rw [nI_1, nI_add]
    exact pk_rem (a := s % 7 + 1 + t % 6) (d := 7) (by omega) (by omega) (by omega)
  refine ⟨by omega, by omega, 11, 133, by omega, by omega, by omega, by omega, by omega, by omega, by omega, by omega, by omega, by omega, by omega, by omega, by omega, by omega, by omega, by omega, by omega, by omega, by omega, by omega, by omega, by omega, by omega, by omega, ?_⟩
  refine ⟨by decide, nm_r eu ⟨by decide, by decide, ?_⟩⟩
  rw [e6]
  refine nm_r ev ?_
  have hu := s7
  have hv : (s % 7 + 1 + t % 6) % 7 < 7 := Nat.mod_lt _ (by omega)
  have hn : s % 7 ≠ (s % 7 + 1 + t % 6) % 7 := by omega
  have K : ∀ x8 : Int32, ((x8 = 0 ∧ (p2 < 1 ∨ ¬ p2 ≤ 100)) ∨ (x8 = 1 ∧ ∃ A : Nat, 1 ≤ A ∧ A ≤ 100 ∧ p2 = nI A)) → wL_lawOf_53 post 94 1504 p2 p3 p4 (nI (s % 7)) (nI ((s % 7 + 1 + t % 6) % 7)) x8 (1 + 11) (16 + 133) 0 0 0 0 0 (fun _ => 0) (fun _ => 0) (fun _ => 0) (fun _ => 0) (fun _ => 0) (fun _ => 0) (fun _ => 0) (fun _ => 0) (fun _ => 0) (fun _ => 0) (fun _ => 0) := by
    intro x8 h8
    exact br_c (fun h => cb_71law hp hu hv hn h8 (Or.inl ⟨rfl, Or.inl h⟩)) (fun h => br_c (fun h' => cb_71law hp hu hv hn h8 (Or.inl ⟨rfl, Or.inr (Int32.not_le.mpr h')⟩)) (fun h' => cb_71law hp hu hv hn h8 (Or.inr ⟨rfl, cb_wt h h'⟩)))
  exact br_c (fun h => K 0 (Or.inl ⟨rfl, Or.inl h⟩)) (fun h => br_c (fun h' => K 0 (Or.inl ⟨rfl, Or.inr (Int32.not_le.mpr h')⟩)) (fun h' => K 1 (Or.inr ⟨rfl, cb_wt h h'⟩)))
theorem cb_cell {post : Int32 → Prop} {L : Nat} {xs : Nat → Int32} {k : Nat} (hL : L ≤ 5) (hk : k < 5) (H : ∀ x, post x) : wpL_cellAt post L xs () (nI k) :=
  pk_le L k (fun _ => H _) (fun z => ⟨pk_in k L z, H _⟩)
end
theorem i_vc (xs : Nat → Int32) (L : Nat) (hL : L ≤ 5) : wpL_law (fun r => r = 1) L xs := by
  unfold wpL_law
  exact cb_cell hL (show 0 < 5 by omega) (fun r1 => cb_cell hL (show 1 < 5 by omega) (fun r2 => cb_cell hL (show 2 < 5 by omega) (fun r3 => cb_cell hL (show 3 < 5 by omega) (fun r4 => cb_cell hL (show 4 < 5 by omega) (fun r5 => ⟨94, 1504, by omega, by omega, cb_lawOf rfl⟩)))))
end
