section
/-! the class's methods, over any state in which at most the point 0 is used -/
section
variable {fs fo fe ft : Int32} {a1 a2 a3 a4 a5 a6 a7 a8 a9 a10 a11 a12 a13 a14 a15 a16 a17 a18 : Nat → Int32}
theorem dm_init {post : St2 → Prop} {mc ms : Nat} (hc : 18 ≤ mc) (hs : 1082 ≤ ms)
    (H : post (0, fo, fe, ft, (fun _ => 0), (fun _ => 0), (fun _ => 0), (fun _ => 0), (fun _ => 0), (fun _ => 0), (fun _ => 0), (fun _ => 0), (fun _ => 0), (fun _ => 0), (fun _ => 0), (fun _ => 0), (fun _ => 0), (fun _ => 0), (fun _ => 0), (fun _ => 0), (fun _ => 0), (fun _ => 0))) :
    wpX_init post mc ms (fs, fo, fe, ft) :=
  ⟨by omega, by omega, by omega, by omega, by omega, by omega, by omega, by omega, by omega, by omega, by omega, by omega, by omega, by omega, by omega, by omega, by omega, by omega, by omega, by omega, by omega, by omega, by omega, by omega, by omega, by omega, by omega, by omega, by omega, by omega, by omega, by omega, by omega, by omega, by omega, by omega, H⟩
theorem dm_off0 {post : Int32 → Prop} {p : Int32} (h0 : ¬ p < 0) (h1 : ¬ 127 < p) (H : post 0) : wpX_offGrid post () p :=
  br_f h0 (br_t (Int32.not_lt.mp h1) H)
theorem dm_off1 {post : Int32 → Prop} {p : Int32} (h : p < 0 ∨ 127 < p) (H : post 1) : wpX_offGrid post () p :=
  h.elim (fun g => br_t g H) (fun g => br_c (fun _ => H) (fun _ => br_f (fun e => absurd g (Int32.not_lt.mpr e)) H))
/-- from k on no point is used -/
theorem dm_ffN {post : Int32 → Prop} {p : Int32} (k : Nat) (hk : k ≤ 24) (h : ∀ j, k ≤ j → j < 24 → a1 j = 0) (H : post (-1)) (hp : p = nI k := by rfl) :
    wpX_firstFrom post (fs, fo, fe, ft, a1, a2, a3, a4, a5, a6, a7, a8, a9, a10, a11, a12, a13, a14, a15, a16, a17, a18) p := by
  subst hp
  exact pk_loop (σ := Unit) (fun n i _ => wX_firstFrom_2 post fs fo fe ft a1 a2 a3 a4 a5 a6 a7 a8 a9 a10 a11 a12 a13 a14 a15 a16 a17 a18 n (nI i)) (fun i _ => k ≤ i) 24 k () hk (Nat.le_refl k)
    (fun n _ _ => pk_le 24 24 (fun _ => H) (fun z => absurd z (by omega)))
    (fun n i _ hi h1 hw => pk_le 24 i (fun z => absurd z (by omega)) (fun _ => ⟨pk_in i 24 hi, br_t (by rw [nI_clamp (by omega)]; exact h i h1 hi) (nm_r (nI_1 i) (hw () (by omega)))⟩))
theorem dm_ffY {post : Int32 → Prop} {p : Int32} (k : Nat) (hk : k < 24) (h : ¬ a1 k = 0) (H : post (nI k)) (hp : p = nI k := by rfl) :
    wpX_firstFrom post (fs, fo, fe, ft, a1, a2, a3, a4, a5, a6, a7, a8, a9, a10, a11, a12, a13, a14, a15, a16, a17, a18) p := by
  subst hp
  exact ⟨1, pk_le 24 k (fun z => absurd z (by omega)) (fun _ => ⟨pk_in k 24 hk, br_f (by rw [nI_clamp (by omega)]; exact h) H⟩)⟩
theorem dm_build {post : St2 → Prop} (h : ∀ j, 1 ≤ j → j < 24 → a1 j = 0) (H : ∀ s, post (fs, 0, fe, ft, a1, a2, a3, s, a5, a6, a7, a8, a9, a10, a11, a12, a13, a14, a15, a16, a17, a18)) : wpX_build post (fs, fo, fe, ft, a1, a2, a3, a4, a5, a6, a7, a8, a9, a10, a11, a12, a13, a14, a15, a16, a17, a18) :=
  pk_loop (fun n i s => wX_build_7 post fs 0 fe ft n (nI i) a1 a2 a3 s a5 a6 a7 a8 a9 a10 a11 a12 a13 a14 a15 a16 a17 a18) (fun _ _ => True) 72 0 a4 (by omega) trivial
    (fun n s _ => pk_le 72 72 (fun _ => by
      by_cases h0 : a1 0 = 0
      · refine dm_ffN 0 (by omega) (fun j _ hj => ?_) (br_f (by decide) (H s))
        by_cases e : j = 0
        · rw [e]; exact h0
        · exact h j (by omega) hj
      · exact dm_ffY 0 (by omega) h0 (br_t (by decide) (dm_ffN 1 (by omega) h (br_f (by decide) (H s))))) (fun z => absurd z (by omega)))
    (fun n i s hi _ hw => pk_le 72 i (fun z => absurd z (by omega)) (fun _ => ⟨pk_in i 72 hi, nm_e (nm_r (nI_1 i) (hw _ trivial))⟩))
theorem dm_le4 {post : St2 → Prop} (m : Nat) (hm : m ≤ 1) (h : ∀ j, 1 ≤ j → j < 24 → a1 j = 0) (H : post (fs, fo, fe, ft, a1, a2, a3, a4, a5, a6, a7, a8, a9, a10, a11, a12, a13, a14, a15, a16, a17, a18)) : ∃ n, wX_lineEdges_4 post fs fo fe ft n (nI m) (nI 1) a1 a2 a3 a4 a5 a6 a7 a8 a9 a10 a11 a12 a13 a14 a15 a16 a17 a18 :=
  pk_loop (σ := Unit) (fun n i _ => wX_lineEdges_4 post fs fo fe ft n (nI m) (nI i) a1 a2 a3 a4 a5 a6 a7 a8 a9 a10 a11 a12 a13 a14 a15 a16 a17 a18) (fun i _ => 1 ≤ i) 24 1 () (by omega) (Nat.le_refl 1)
    (fun n _ _ => pk_le 24 24 (fun _ => ⟨1, pk_le m 1 (fun _ => H) (fun z => absurd z (by omega))⟩) (fun z => absurd z (by omega)))
    (fun n i _ hi h1 hw => pk_le 24 i (fun z => absurd z (by omega)) (fun _ => ⟨pk_in i 24 hi, br_t (by rw [nI_clamp (by omega)]; exact h i h1 hi) (nm_r (nI_1 i) (hw () (by omega)))⟩))
theorem dm_line {post : St2 → Prop} (h : ∀ j, 1 ≤ j → j < 24 → a1 j = 0) (H : ∀ s, post (fs, fo, fe, ft, a1, a2, a3, a4, a5, a6, a7, a8, a9, a10, a11, a12, a13, a14, a15, a16, s, a18)) : wpX_lineEdges post (fs, fo, fe, ft, a1, a2, a3, a4, a5, a6, a7, a8, a9, a10, a11, a12, a13, a14, a15, a16, a17, a18) := by
  by_cases h0 : a1 0 = 0
  · obtain ⟨n, hn⟩ := dm_le4 (post := post) (fs := fs) (fo := fo) (fe := fe) (ft := ft) (a1 := a1) (a2 := a2) (a3 := a3) (a4 := a4) (a5 := a5) (a6 := a6) (a7 := a7) (a8 := a8) (a9 := a9) (a10 := a10) (a11 := a11) (a12 := a12) (a13 := a13) (a14 := a14) (a15 := a15) (a16 := a16) (a17 := a17) (a18 := a18) 0 (by omega) h (H a17)
    exact ⟨n + 1, pk_le 24 0 (fun z => absurd z (by omega)) (fun _ => ⟨pk_in 0 24 (by omega), br_t (by rw [sb_cl0]; exact h0) (nm_r (e' := nI 1) (by rfl) hn)⟩)⟩
  · obtain ⟨n, hn⟩ := dm_le4 (post := post) (fs := fs) (fo := fo) (fe := fe) (ft := ft) (a1 := a1) (a2 := a2) (a3 := a3) (a4 := a4) (a5 := a5) (a6 := a6) (a7 := a7) (a8 := a8) (a9 := a9) (a10 := a10) (a11 := a11) (a12 := a12) (a13 := a13) (a14 := a14) (a15 := a15) (a16 := a16) (a17 := upd a17 0 0) (a18 := a18) 1 (by omega) h (H (upd a17 0 0))
    exact ⟨n + 1, pk_le 24 0 (fun z => absurd z (by omega)) (fun _ => ⟨pk_in 0 24 (by omega), br_f (by rw [sb_cl0]; exact h0)
      ⟨1, br_t (by decide) ⟨pk_in 0 24 (by omega), nm_r (e' := upd a17 0 0) (by rw [sb_cl0]) (nm_r (e' := nI 1) (by rfl) (nm_r (e' := nI 1) (by rfl) hn))⟩⟩⟩)⟩
theorem dm_alone {post : St2 → Prop} (H : ∀ s, post (fs, fo, fe, ft, a1, a2, a3, a4, a5, a6, a7, a8, a9, a10, a11, a12, a13, a14, a15, s, a17, a18)) : wpX_alone post (fs, fo, fe, ft, a1, a2, a3, a4, a5, a6, a7, a8, a9, a10, a11, a12, a13, a14, a15, a16, a17, a18) :=
  pk_loop (fun n i s => wX_alone_2 post fs fo fe ft n (nI i) a1 a2 a3 a4 a5 a6 a7 a8 a9 a10 a11 a12 a13 a14 a15 s a17 a18) (fun _ _ => True) 24 0 a16 (by omega) trivial
    (fun n s _ => pk_le 24 24 (fun _ => H s) (fun z => absurd z (by omega)))
    (fun n i s hi _ hw => pk_le 24 i (fun z => absurd z (by omega)) (fun _ => ⟨pk_in i 24 hi, nm_e (nm_r (nI_1 i) (hw _ trivial))⟩))
theorem dm_pick {post : St2 → Prop} (H : ∀ s, post (fs, fo, 0, 0, a1, a2, a3, a4, a5, a6, a7, a8, a9, a10, a11, a12, a13, a14, a15, s, a17, a18)) : wpX_pickTree post (fs, fo, 0, ft, a1, a2, a3, a4, a5, a6, a7, a8, a9, a10, a11, a12, a13, a14, a15, a16, a17, a18) :=
  dm_alone (fun s => ⟨1, br_t (by decide) (H s)⟩)
theorem dm_coll {post : St2 → Prop} (h : ∀ j, 1 ≤ j → j < 24 → a1 j = 0) (H : ∀ s t, post (fs, 0, 0, 0, a1, a2, a3, a4, a5, a6, a7, a8, a9, a10, a11, a12, a13, a14, a15, s, t, a18)) : wpX_collectEdges post (fs, 0, fe, ft, a1, a2, a3, a4, a5, a6, a7, a8, a9, a10, a11, a12, a13, a14, a15, a16, a17, a18) :=
  br_t rfl (dm_line h (fun t => dm_pick (fun s => H s t)))
theorem dm_add0 {post : Int32 → St2 → Prop} {x y : Int32} (hx0 : ¬ x < 0) (hx1 : ¬ 127 < x) (hy0 : ¬ y < 0) (hy1 : ¬ 127 < y) (h : ∀ j, j < 24 → a1 j = 0)
    (H : ∀ s t v, post 0 (fs + 1, 0, 0, 0, upd a1 0 1, upd a2 0 x, upd a3 0 y, s, a5, a6, a7, a8, a9, a10, a11, a12, a13, a14, a15, t, v, a18)) : wpX_add post (fs, 0, fe, ft, a1, a2, a3, a4, a5, a6, a7, a8, a9, a10, a11, a12, a13, a14, a15, a16, a17, a18) x y := by
  have hb : ∀ j, 1 ≤ j → j < 24 → upd a1 0 1 j = 0 := fun j h1 hj => by
    rw [pk_un (by omega)]
    exact h j hj
  have t : wX_add_22 post x y fs 0 fe ft a1 a2 a3 a4 a5 a6 a7 a8 a9 a10 a11 a12 a13 a14 a15 a16 a17 a18 25 (-1) (nI 24 + (-1)) := by
    refine pk_loopD (fun n i s => wX_add_22 post x y fs 0 fe ft a1 a2 a3 a4 a5 a6 a7 a8 a9 a10 a11 a12 a13 a14 a15 a16 a17 a18 n s (nI i + (-1))) (fun i s => (i = 24 ∧ s = -1) ∨ (i < 24 ∧ s = nI i)) ?_ ?_ 24 (-1) (Or.inl ⟨rfl, rfl⟩)
    · intro n s hs
      have e : s = 0 := by
        rcases hs with g | g
        · exact absurd g.1 (by omega)
        · exact g.2
      subst e
      exact br_t (by decide) (br_t (by decide) ⟨pk_in 0 24 (by omega), nm_r (e' := upd a1 0 1) (by rw [sb_cl0]) ⟨pk_in 0 24 (by omega), nm_r (e' := upd a2 0 x) (by rw [sb_cl0]) ⟨pk_in 0 24 (by omega), nm_r (e' := upd a3 0 y) (by rw [sb_cl0])
        (nm_e (br_t rfl (dm_build hb (fun s => dm_coll hb (fun t v => H s t v)))))⟩⟩⟩)
    · intro n i s hs hw
      have hi : i < 24 := by
        rcases hs with g | g
        · have := g.1; omega
        · have := g.1; omega
      show wX_add_22 post x y fs 0 fe ft a1 a2 a3 a4 a5 a6 a7 a8 a9 a10 a11 a12 a13 a14 a15 a16 a17 a18 (n + 1) s (nI (i + 1) + (-1))
      rw [pk_m1]
      exact pk_lt i 0 (fun z => absurd z (by omega)) (fun _ => ⟨pk_in i 24 hi, br_t (by rw [nI_clamp (by omega)]; exact h i hi)
        ⟨pk_in i 24 hi, br_t (by rw [nI_clamp (by omega)]; exact h i hi) (nm_e (hw (nI i) (Or.inr ⟨hi, rfl⟩)))⟩⟩)
  have e : nI 24 + (-1) = 23 := by decide
  rw [e] at t
  unfold wpX_add
  exact dm_off0 hx0 hx1 (br_t rfl (dm_off0 hy0 hy1 (br_t rfl ⟨25, t⟩)))
/-- off the grid -/
def dm_bad (x y : Int32) : Prop := (x < 0 ∨ 127 < x) ∨ (¬ x < 0 ∧ ¬ 127 < x) ∧ (y < 0 ∨ 127 < y)
theorem dm_add1 {post : Int32 → St2 → Prop} {x y : Int32} (h : dm_bad x y) (H : post (-1) (fs, fo, fe, ft, a1, a2, a3, a4, a5, a6, a7, a8, a9, a10, a11, a12, a13, a14, a15, a16, a17, a18)) : wpX_add post (fs, fo, fe, ft, a1, a2, a3, a4, a5, a6, a7, a8, a9, a10, a11, a12, a13, a14, a15, a16, a17, a18) x y := by
  unfold wpX_add
  exact h.elim (fun g => dm_off1 g (br_f (by decide) H)) (fun g => dm_off0 g.1.1 g.1.2 (br_t rfl (dm_off1 g.2 (br_f (by decide) H))))
theorem dm_near1 {post : Int32 → St2 → Prop} {x y : Int32} (h : dm_bad x y) (H : post (-1) (fs, fo, fe, ft, a1, a2, a3, a4, a5, a6, a7, a8, a9, a10, a11, a12, a13, a14, a15, a16, a17, a18)) : wpX_nearest post (fs, fo, fe, ft, a1, a2, a3, a4, a5, a6, a7, a8, a9, a10, a11, a12, a13, a14, a15, a16, a17, a18) x y := by
  unfold wpX_nearest
  exact h.elim (fun g => dm_off1 g (br_f (by decide) H)) (fun g => dm_off0 g.1.1 g.1.2 (br_t rfl (dm_off1 g.2 (br_f (by decide) H))))
theorem dm_near0 {post : Int32 → St2 → Prop} {x y : Int32} (hx0 : ¬ x < 0) (hx1 : ¬ 127 < x) (hy0 : ¬ y < 0) (hy1 : ¬ 127 < y) (h : ∀ j, j < 24 → a1 j = 0)
    (H : post (-4) (fs, fo, fe, ft, a1, a2, a3, a4, a5, a6, a7, a8, a9, a10, a11, a12, a13, a14, a15, a16, a17, a18)) : wpX_nearest post (fs, fo, fe, ft, a1, a2, a3, a4, a5, a6, a7, a8, a9, a10, a11, a12, a13, a14, a15, a16, a17, a18) x y := by
  unfold wpX_nearest
  exact dm_off0 hx0 hx1 (br_t rfl (dm_off0 hy0 hy1 (br_t rfl (dm_ffN 0 (by omega) (fun j _ hj => h j hj) (br_f (by decide) H)))))
/-- the id names no used point -/
theorem dm_np1 {post : Int32 → Prop} {p : Int32} (h : ∀ j, j < 24 → p = nI j → a1 j = 0) (H : post 1) : wpX_noPoint post (fs, fo, fe, ft, a1, a2, a3, a4, a5, a6, a7, a8, a9, a10, a11, a12, a13, a14, a15, a16, a17, a18) p :=
  br_c (fun _ => H) (fun h0 => br_c (fun _ => H) (fun h1 => by
    obtain ⟨j, hj, e⟩ := nI_of2 (M := 23) (n := 23) (by decide) h0 (Int32.not_lt.mp h1)
    subst e
    exact ⟨pk_in j 24 (by omega), br_t (by rw [nI_clamp (by omega)]; exact h j (by omega) rfl) H⟩))
theorem dm_np0 {post : Int32 → Prop} (h : ¬ a1 0 = 0) (H : post 0) : wpX_noPoint post (fs, fo, fe, ft, a1, a2, a3, a4, a5, a6, a7, a8, a9, a10, a11, a12, a13, a14, a15, a16, a17, a18) 0 :=
  br_f (by decide) (br_f (by decide) ⟨pk_in 0 24 (by omega), br_f (by rw [sb_cl0]; exact h) H⟩)
theorem dm_x1 {post : Int32 → Prop} {p : Int32} (h : ∀ j, j < 24 → p = nI j → a1 j = 0) (H : post (-4)) : wpX_xOf post (fs, fo, fe, ft, a1, a2, a3, a4, a5, a6, a7, a8, a9, a10, a11, a12, a13, a14, a15, a16, a17, a18) p := by
  unfold wpX_xOf
  exact dm_np1 h (br_f (by decide) H)
theorem dm_x0 {post : Int32 → Prop} (h : ¬ a1 0 = 0) (H : post (a2 0)) : wpX_xOf post (fs, fo, fe, ft, a1, a2, a3, a4, a5, a6, a7, a8, a9, a10, a11, a12, a13, a14, a15, a16, a17, a18) 0 := by
  unfold wpX_xOf
  exact dm_np0 h (br_t rfl ⟨pk_in 0 24 (by omega), by rw [sb_cl0]; exact H⟩)
theorem dm_nb1 {post : Int32 → Prop} {p : Int32} (h : ∀ j, j < 24 → p = nI j → a1 j = 0) (H : post (-4)) : wpX_neighbour post (fs, fo, fe, ft, a1, a2, a3, a4, a5, a6, a7, a8, a9, a10, a11, a12, a13, a14, a15, a16, a17, a18) p := by
  unfold wpX_neighbour
  exact dm_np1 h (br_f (by decide) H)
theorem dm_nb0 {post : Int32 → Prop} (h : ¬ a1 0 = 0) (H : post (-4)) : wpX_neighbour post (fs, fo, 0, ft, a1, a2, a3, a4, a5, a6, a7, a8, a9, a10, a11, a12, a13, a14, a15, a16, a17, a18) 0 := by
  unfold wpX_neighbour
  exact dm_np0 h (br_t rfl ⟨1, br_t (by decide) H⟩)
theorem dm_rm1 {post : Int32 → St2 → Prop} {p : Int32} (h : ∀ j, j < 24 → p = nI j → a1 j = 0) (H : post (-4) (fs, fo, fe, ft, a1, a2, a3, a4, a5, a6, a7, a8, a9, a10, a11, a12, a13, a14, a15, a16, a17, a18)) : wpX_remove post (fs, fo, fe, ft, a1, a2, a3, a4, a5, a6, a7, a8, a9, a10, a11, a12, a13, a14, a15, a16, a17, a18) p := by
  unfold wpX_remove
  exact dm_np1 h (br_f (by decide) H)
theorem dm_rm0 {post : Int32 → St2 → Prop} (h0 : ¬ a1 0 = 0) (h : ∀ j, 1 ≤ j → j < 24 → a1 j = 0)
    (H : ∀ s t v, post (fs - 1) (fs - 1, 0, 0, 0, upd a1 0 0, a2, a3, s, a5, a6, a7, a8, a9, a10, a11, a12, a13, a14, a15, t, v, a18)) : wpX_remove post (fs, fo, fe, ft, a1, a2, a3, a4, a5, a6, a7, a8, a9, a10, a11, a12, a13, a14, a15, a16, a17, a18) 0 := by
  have hb : ∀ j, 1 ≤ j → j < 24 → upd a1 0 0 j = 0 := fun j h1 hj => by
    rw [pk_un (by omega)]
    exact h j h1 hj
  unfold wpX_remove
  exact dm_np0 h0 (br_t rfl ⟨pk_in 0 24 (by omega), nm_r (e' := upd a1 0 0) (by rw [sb_cl0]) (nm_e (dm_build hb (fun s => dm_coll hb (fun t v => H s t v))))⟩)
end
end
section
/-! the law: the first look at a new object, off the grid and on it -/
section
variable {post : Int32 → St0 → Prop} {mc ms kc ks : Nat} {x y id : Int32}
/-- behind add, where the id names no used point -/
theorem dm_91 {x4 fs fo fe ft : Int32} {a1 a2 a3 a4 a5 a6 a7 a8 a9 a10 a11 a12 a13 a14 a15 a16 a17 a18 : Nat → Int32} (h : ∀ j, j < 24 → id = nI j → a1 j = 0)
    (H : wL_lawOf_141 post mc ms x4 0 (-4) (-4) kc ks fs fo fe ft a1 a2 a3 a4 a5 a6 a7 a8 a9 a10 a11 a12 a13 a14 a15 a16 a17 a18) : wL_lawOf_91 post mc ms x id x4 kc ks fs fo fe ft a1 a2 a3 a4 a5 a6 a7 a8 a9 a10 a11 a12 a13 a14 a15 a16 a17 a18 := by
  unfold wL_lawOf_91 wL_lawOf_92
  exact dm_x1 h (br_t rfl (br_t rfl (dm_nb1 h (br_t rfl (dm_rm1 h (br_t rfl H))))))
/-- a new object's arrays -/
def dm_z : Nat → Int32 := fun _ => 0
theorem dm_off (h : dm_bad x y) (H : post 1 ()) :
    wL_lawOf_32 post mc ms x y id kc ks 0 0 0 0 dm_z dm_z dm_z dm_z dm_z dm_z dm_z dm_z dm_z dm_z dm_z dm_z dm_z dm_z dm_z dm_z dm_z dm_z :=
  dm_near1 h (br_t rfl (br_t rfl (dm_add1 h (br_t rfl (br_t rfl (br_t rfl (dm_91 (fun _ _ _ => rfl) (br_t rfl (br_t rfl (br_t rfl H))))))))))
theorem dm_one : ¬ upd dm_z 0 1 0 = 0 := by
  rw [pk_us]
  decide
theorem dm_rest {j : Nat} (h : 1 ≤ j) : upd dm_z 0 1 j = 0 := by
  rw [pk_un (by omega)]
  rfl
theorem dm_on (hx0 : ¬ x < 0) (hx1 : ¬ 127 < x) (hy0 : ¬ y < 0) (hy1 : ¬ 127 < y) (H : post 1 ()) :
    wL_lawOf_33 post mc ms x y id 1 kc ks 0 0 0 0 dm_z dm_z dm_z dm_z dm_z dm_z dm_z dm_z dm_z dm_z dm_z dm_z dm_z dm_z dm_z dm_z dm_z dm_z := by
  refine dm_near0 hx0 hx1 hy0 hy1 (fun _ _ => rfl) (br_f (by decide) (br_t rfl (dm_add0 hx0 hx1 hy0 hy1 (fun _ _ => rfl) (fun s t v => br_f (by decide) (br_t rfl (br_f (by decide) ?_))))))
  by_cases h : id = 0
  · subst h
    exact br_t rfl (dm_x0 dm_one (br_f (by decide) (br_t pk_us (dm_nb0 dm_one (br_t rfl (dm_rm0 dm_one (fun j h1 _ => dm_rest h1) (fun s' t' v' =>
      br_f (by decide) (br_t (by decide) (br_f (by decide) (br_f (by decide) (br_t (by decide) H)))))))))))
  · have hn : ∀ j, j < 24 → id = nI j → upd dm_z 0 1 j = 0 := fun j _ e => dm_rest (by
      rcases Nat.eq_zero_or_pos j with z | z
      · exact absurd (show id = 0 by rw [e, z]; rfl) h
      · exact z)
    exact br_f h (dm_91 hn (br_t rfl (br_f (by decide) (br_t rfl (br_t (by decide) H)))))
theorem dm_lawOf (hc : 19 ≤ mc) (hs : 1104 ≤ ms) (H : post 1 ()) : wpL_lawOf post mc ms () x y id :=
  ⟨by omega, by omega, 18, 1082, by omega, by omega, dm_init (by omega) (by omega)
    (br_c (fun h0 => dm_off (Or.inl (Or.inl h0)) H) (fun h0 => br_c (fun h1 => dm_off (Or.inl (Or.inr h1)) H) (fun h1 =>
      br_c (fun g0 => dm_off (Or.inr ⟨⟨h0, h1⟩, Or.inl g0⟩) H) (fun g0 => br_c (fun g1 => dm_off (Or.inr ⟨⟨h0, h1⟩, Or.inr g1⟩) H) (fun g1 => dm_on h0 h1 g0 g1 H)))))⟩
end
theorem dm_cell {post : Int32 → Prop} {L : Nat} {xs : Nat → Int32} {p : Int32} (i : Nat) (hL : L ≤ 3) (hi : i ≤ 2) (H : ∀ r, post r) (hp : p = nI i := by rfl) : wpL_cellAt post L xs () p :=
  pk_le L i (fun _ => H _) (fun z => ⟨pk_in i L z hp, H _⟩) (by rfl) hp
end
section
theorem i_vc (xs : Nat → Int32) (L : Nat) (hL : L ≤ 3) : wpL_law (fun r => r = 1) L xs :=
  dm_cell 0 hL (by omega) (fun _ => dm_cell 1 hL (by omega) (fun _ => dm_cell 2 hL (by omega) (fun _ => ⟨19, 1104, by omega, by omega, dm_lawOf (by omega) (by omega) rfl⟩)))
end
