section
/-- a good token -/
def mt_V (t : Int32) : Prop := (0 ≤ t.toInt ∧ t.toInt ≤ 3) ∨ (10 ≤ t.toInt ∧ t.toInt ≤ 14) ∨ (20 ≤ t.toInt ∧ t.toInt ≤ 22)
theorem mt_bl {t k : Int32} {A B : Prop} (n : Int) (f : t.toInt < n → A) (g : n ≤ t.toInt → B) (h : k.toInt = n := by decide) : (t < k → A) ∧ (¬ t < k → B) := by
  rw [Int32.lt_iff_toInt_lt, h]
  exact ⟨f, fun z => g (by omega)⟩
theorem mt_bg {t k : Int32} {A B : Prop} (n : Int) (f : n < t.toInt → A) (g : t.toInt ≤ n → B) (h : k.toInt = n := by decide) : (k < t → A) ∧ (¬ k < t → B) := by
  rw [Int32.lt_iff_toInt_lt, h]
  exact ⟨f, fun z => g (by omega)⟩
theorem mt_ble {t k : Int32} {A B : Prop} (n : Int) (f : t.toInt ≤ n → A) (g : n < t.toInt → B) (h : k.toInt = n := by decide) : (t ≤ k → A) ∧ (¬ t ≤ k → B) := by
  rw [Int32.le_iff_toInt_le, h]
  exact ⟨f, fun z => g (by omega)⟩
theorem mt_bge {t k : Int32} {A B : Prop} (n : Int) (f : n ≤ t.toInt → A) (g : t.toInt < n → B) (h : k.toInt = n := by decide) : (k ≤ t → A) ∧ (¬ k ≤ t → B) := by
  rw [Int32.le_iff_toInt_le, h]
  exact ⟨f, fun z => g (by omega)⟩
theorem mt_beq {t k : Int32} {A B : Prop} (n : Int) (f : t.toInt = n → A) (g : t.toInt ≠ n → B) (h : k.toInt = n := by decide) : (t = k → A) ∧ (¬ t = k → B) := by
  rw [← Int32.toInt_inj, h]
  exact ⟨f, g⟩
theorem mt_is {t : Int32} (k : Int32) (n : Int) (h : t.toInt = n) (hk : k.toInt = n := by decide) : t = k := Int32.toInt_inj.mp (h.trans hk.symm)
theorem mt_4 {t : Int32} (h : 0 ≤ t.toInt ∧ t.toInt ≤ 3) : t = 0 ∨ t = 1 ∨ t = 2 ∨ t = 3 := by
  have e : t.toInt = 0 ∨ t.toInt = 1 ∨ t.toInt = 2 ∨ t.toInt = 3 := by omega
  rcases e with e | e | e | e
  · exact Or.inl (mt_is 0 0 e)
  · exact Or.inr (Or.inl (mt_is 1 1 e))
  · exact Or.inr (Or.inr (Or.inl (mt_is 2 2 e)))
  · exact Or.inr (Or.inr (Or.inr (mt_is 3 3 e)))
/-- an atom with no bond yet can have one -/
theorem mt_can {t x y : Int32} (h : 0 ≤ t.toInt ∧ t.toInt ≤ 3) (hx : x = t) (hy : y = 0) : ¬ 4 - x < y + 1 := by
  subst hx hy
  rcases mt_4 h with rfl | rfl | rfl | rfl <;> decide
theorem mt_s01 {s : Int32} : (s = 0 ∨ s = 1) ↔ (0 ≤ s.toInt ∧ s.toInt ≤ 1) := by
  constructor
  · intro h
    rcases h with rfl | rfl <;> decide
  · intro h
    have e : s.toInt = 0 ∨ s.toInt = 1 := by omega
    rcases e with e | e
    · exact Or.inl (mt_is 0 0 e)
    · exact Or.inr (mt_is 1 1 e)
theorem mt_ix (a b : Nat) : (7 : Int32) * nI a + nI b = nI (7 * a + b) := by
  rw [show (7 : Int32) = nI 7 from rfl, pk_mul, nI_add]
theorem mt_z (k : Nat) : upd (fun _ => 0) k 0 = (fun _ => 0) := by
  funext j
  unfold upd
  split <;> rfl
/-! the text -/
theorem mt_bad {post : Int32 → Prop} (u : St2) {t : Int32} (h0 : mt_V t → post 0) (h1 : ¬ mt_V t → post 1) : wpX_badToken post u t := by
  obtain ⟨co, ir, wp, ra, la, sa, pl, od, a1, a2, a3, a4, a5, a6, a7, a8, a9, a10, a11, a12, a13, a14, a15, a16, a17, a18, a19, a20, a21, a22, a23, a24⟩ := u
  refine mt_bl 0 (fun z => ?_) (fun z => mt_bg 3 (fun z2 => ?_) (fun z2 => ?_))
  · exact mt_bl 10 (fun y => br_t rfl (br_t rfl (mt_bl 20 (fun x => h1 (by unfold mt_V; omega)) (fun x => mt_ble 22 (fun w => h0 (by unfold mt_V; omega)) (fun w => h1 (by unfold mt_V; omega)))))) (fun y => mt_bg 14 (fun y2 => br_t rfl (br_t rfl (mt_bl 20 (fun x => h1 (by unfold mt_V; omega)) (fun x => mt_ble 22 (fun w => h0 (by unfold mt_V; omega)) (fun w => h1 (by unfold mt_V; omega)))))) (fun y2 => br_t rfl (br_f (by decide) (h0 (by unfold mt_V; omega)))))
  · exact mt_bl 10 (fun y => br_t rfl (br_t rfl (mt_bl 20 (fun x => h1 (by unfold mt_V; omega)) (fun x => mt_ble 22 (fun w => h0 (by unfold mt_V; omega)) (fun w => h1 (by unfold mt_V; omega)))))) (fun y => mt_bg 14 (fun y2 => br_t rfl (br_t rfl (mt_bl 20 (fun x => h1 (by unfold mt_V; omega)) (fun x => mt_ble 22 (fun w => h0 (by unfold mt_V; omega)) (fun w => h1 (by unfold mt_V; omega)))))) (fun y2 => br_t rfl (br_f (by decide) (h0 (by unfold mt_V; omega)))))
  · have v : mt_V t := by unfold mt_V; omega
    exact mt_bl 10 (fun y => br_f (by decide) (h0 v)) (fun y => mt_bg 14 (fun _ => br_f (by decide) (h0 v)) (fun _ => br_f (by decide) (h0 v)))
theorem mt_token {post : Int32 → St2 → Prop} {ir wp ra la sa pl od : Int32} {a1 a2 a3 a4 a5 a6 a7 a8 a9 a10 a11 a12 a13 a14 a15 a16 a17 a18 a19 a20 a21 a22 a23 a24 : Nat → Int32} {t : Int32} (k : Nat) (hk : k < 24) (h0 : mt_V t → post (nI (k + 1)) ((nI (k + 1)), 0, wp, ra, la, sa, pl, od, (upd a1 k t), a2, a3, a4, a5, a6, a7, a8, a9, a10, a11, a12, a13, a14, a15, a16, a17, a18, a19, a20, a21, a22, a23, a24)) (h1 : ¬ mt_V t → post (-1) ((nI k), ir, wp, ra, la, sa, pl, od, a1, a2, a3, a4, a5, a6, a7, a8, a9, a10, a11, a12, a13, a14, a15, a16, a17, a18, a19, a20, a21, a22, a23, a24)) : wpX_token post ((nI k), ir, wp, ra, la, sa, pl, od, a1, a2, a3, a4, a5, a6, a7, a8, a9, a10, a11, a12, a13, a14, a15, a16, a17, a18, a19, a20, a21, a22, a23, a24) t := by
  unfold wpX_token
  refine mt_bad _ (fun v => ?_) (fun v => br_f (by decide) (h1 v))
  exact br_t rfl (pk_eq k 24 (fun z => absurd z (by omega)) (fun _ => ⟨pk_in k 24 hk, nm_r (by rw [nI_clamp (by omega)]) (nm_r (nI_1 k) (h0 v))⟩))
end
section
/-! reading: the tokens -/
theorem mt_47 {post : Int32 → St2 → Prop} {co ir wp ra la sa pl od : Int32} {a1 a2 a4 a5 a6 a7 a8 a9 a10 a11 a12 a13 a14 a15 a16 a17 a18 a19 a20 a21 a22 a23 a24 : Nat → Int32} (k : Nat) (hk : k < 7)
    (H : (la = (-1) → wX_readAtom_132 post (nI k) co ir wp ra la sa pl od a1 a2 (fun _ => 0) a4 a5 a6 a7 a8 a9 a10 a11 a12 a13 a14 a15 a16 a17 a18 a19 a20 a21 a22 a23 a24) ∧ (¬ la = (-1) → ((sa ≤ 0 → wX_readAtom_106 post (nI k) 1 co ir wp ra la sa pl od a1 a2 (fun _ => 0) a4 a5 a6 a7 a8 a9 a10 a11 a12 a13 a14 a15 a16 a17 a18 a19 a20 a21 a22 a23 a24) ∧ (¬ sa ≤ 0 → wX_readAtom_106 post (nI k) sa co ir wp ra la sa pl od a1 a2 (fun _ => 0) a4 a5 a6 a7 a8 a9 a10 a11 a12 a13 a14 a15 a16 a17 a18 a19 a20 a21 a22 a23 a24)))) :
    ∃ n, wX_readAtom_47 post (nI k) co ir wp ra la sa pl od n 0 a1 a2 (fun _ => 0) a4 a5 a6 a7 a8 a9 a10 a11 a12 a13 a14 a15 a16 a17 a18 a19 a20 a21 a22 a23 a24 :=
  pk_loop (σ := Unit) (fun n i _ => wX_readAtom_47 post (nI k) co ir wp ra la sa pl od n (nI i) a1 a2 (fun _ => 0) a4 a5 a6 a7 a8 a9 a10 a11 a12 a13 a14 a15 a16 a17 a18 a19 a20 a21 a22 a23 a24) (fun _ _ => True) 7 0 () (by omega) trivial
    (fun n _ _ => pk_le 7 7 (fun _ => H) (fun z => absurd z (by omega)))
    (fun n i _ hi _ hw => pk_le 7 i (fun z => absurd z (by omega)) (fun _ => ⟨pk_in (7 * k + i) 49 (by omega) (mt_ix k i), nm_r (mt_z _) ⟨pk_in (7 * i + k) 49 (by omega) (mt_ix i k), nm_r (mt_z _) (nm_r (nI_1 i) (hw () trivial))⟩⟩))
/-- a sign where no atom is: wrong -/
theorem mt_rtN {post : Int32 → St2 → Prop} {co ir wp ra sa od : Int32} {a1 a2 a3 a4 a5 a6 a7 a8 a9 a10 a11 a12 a13 a14 a15 a16 a17 a18 a19 a20 a21 a22 a23 a24 : Nat → Int32} {t : Int32} (h3 : 3 < t.toInt) (h : a1 0 = t) (H : post 0 (co, ir, wp, ra, (-1), sa, 0, od, a1, a2, a3, a4, a5, a6, a7, a8, a9, a10, a11, a12, a13, a14, a15, a16, a17, a18, a19, a20, a21, a22, a23, a24)) : wpX_readToken post (co, ir, wp, ra, (-1), sa, 0, od, a1, a2, a3, a4, a5, a6, a7, a8, a9, a10, a11, a12, a13, a14, a15, a16, a17, a18, a19, a20, a21, a22, a23, a24) 0 := by
  have hB : wX_readToken_30 post 0 t co ir wp ra (-1) sa 0 od a1 a2 a3 a4 a5 a6 a7 a8 a9 a10 a11 a12 a13 a14 a15 a16 a17 a18 a19 a20 a21 a22 a23 a24 := by
    unfold wX_readToken_30
    exact br_c (fun _ => br_t rfl ⟨rfl, H⟩) (fun _ => br_t rfl ⟨rfl, H⟩)
  refine ⟨pk_in 0 24 (by omega), nm_r (e' := t) h ?_⟩
  exact mt_bg 3 (fun _ => br_c (fun _ => hB) (fun _ => br_c (fun _ => hB) (fun _ => mt_bl 20 (fun _ => br_t rfl H) (fun _ => br_t rfl ⟨rfl, H⟩)))) (fun z => absurd z (by omega))
/-- the first atom -/
theorem mt_rtA1 {post : Int32 → St2 → Prop} {co ir wp pl od : Int32} {a1 a2 a4 a5 a6 a7 a8 a9 a10 a11 a12 a13 a14 a15 a16 a17 a18 a19 a20 a21 a22 a23 a24 : Nat → Int32} {t : Int32} (h3 : t.toInt ≤ 3) (h : a1 0 = t)
    (H : post 1 (co, ir, wp, 1, 0, 0, pl, od, a1, (upd a2 0 t), (fun _ => 0), (upd a4 0 0), a5, a6, a7, a8, a9, a10, a11, a12, a13, a14, a15, a16, a17, a18, a19, a20, a21, a22, a23, a24)) : wpX_readToken post (co, ir, wp, 0, (-1), 0, pl, od, a1, a2, (fun _ => 0), a4, a5, a6, a7, a8, a9, a10, a11, a12, a13, a14, a15, a16, a17, a18, a19, a20, a21, a22, a23, a24) 0 := by
  refine ⟨pk_in 0 24 (by omega), nm_r (e' := t) h ?_⟩
  refine mt_bg 3 (fun z => absurd z (by omega)) (fun _ => ?_)
  refine br_f (by decide) (br_t rfl (br_t (by decide) ?_))
  refine ⟨pk_in 0 7 (by omega), nm_r (e' := upd a2 0 t) rfl ⟨pk_in 0 7 (by omega), nm_r (e' := upd a4 0 0) rfl ?_⟩⟩
  exact mt_47 0 (by omega) (br_t rfl (nm_r (e' := 1) (by decide) ⟨rfl, H⟩))
/-- a second atom behind the first -/
theorem mt_rtA2 {post : Int32 → St2 → Prop} {co ir wp pl od : Int32} {a1 a2 a4 a5 a6 a7 a8 a9 a10 a11 a12 a13 a14 a15 a16 a17 a18 a19 a20 a21 a22 a23 a24 : Nat → Int32} {t u : Int32} (ht : 0 ≤ t.toInt ∧ t.toInt ≤ 3) (hu : 0 ≤ u.toInt ∧ u.toInt ≤ 3) (h : a1 1 = u) (h2 : a2 0 = t) (h4 : a4 0 = 0)
    (H : ∀ b : Nat → Int32, post 1 (co, ir, wp, 2, 1, 0, pl, od, a1, (upd a2 1 u), (upd (upd (fun _ => 0) 1 1) 7 1), b, a5, a6, a7, a8, a9, a10, a11, a12, a13, a14, a15, a16, a17, a18, a19, a20, a21, a22, a23, a24)) : wpX_readToken post (co, ir, wp, 1, 0, 0, pl, od, a1, a2, (fun _ => 0), a4, a5, a6, a7, a8, a9, a10, a11, a12, a13, a14, a15, a16, a17, a18, a19, a20, a21, a22, a23, a24) 1 := by
  refine ⟨pk_in 1 24 (by omega), nm_r (e' := u) h ?_⟩
  refine mt_bg 3 (fun z => absurd z (by omega)) (fun _ => ?_)
  refine br_f (by decide) (br_f (by decide) ?_)
  refine ⟨pk_in 1 7 (by omega), nm_r (e' := upd a2 1 u) rfl ⟨pk_in 1 7 (by omega), nm_r (e' := upd a4 1 0) rfl ?_⟩⟩
  refine mt_47 1 (by omega) (br_f (by decide) (br_t (by decide) ?_))
  unfold wX_readAtom_106
  refine ⟨pk_in 0 7 (by omega), pk_in 0 7 (by omega), ?_⟩
  refine br_f (mt_can (x := upd a2 1 u 0) (y := upd a4 1 0 0) ht ((pk_un (by decide)).trans h2) ((pk_un (by decide)).trans h4)) ?_
  refine br_f (by decide) ⟨pk_in 1 7 (by omega), pk_in 1 7 (by omega), ?_⟩
  refine br_f (mt_can (x := upd a2 1 u 1) (y := upd a4 1 0 1) hu pk_us pk_us) ?_
  refine br_f (by decide) ?_
  refine ⟨pk_in 1 49 (by omega), nm_r (e' := upd (fun _ => 0) 1 1) rfl ⟨pk_in 7 49 (by omega), nm_r (e' := upd (upd (fun _ => 0) 1 1) 7 1) rfl ⟨pk_in 0 7 (by omega), pk_in 0 7 (by omega), nm_e ⟨pk_in 1 7 (by omega), pk_in 1 7 (by omega), nm_e ?_⟩⟩⟩⟩
  exact nm_r (e' := 2) (by decide) ⟨rfl, H _⟩
/-- a closing sign where no branch was begun: wrong -/
theorem mt_rtC {post : Int32 → St2 → Prop} {co ir wp ra la sa od : Int32} {a1 a2 a3 a4 a5 a6 a7 a8 a9 a10 a11 a12 a13 a14 a15 a16 a17 a18 a19 a20 a21 a22 a23 a24 : Nat → Int32} (h : a1 1 = 11) (H : post 0 (co, ir, wp, ra, la, sa, 0, od, a1, a2, a3, a4, a5, a6, a7, a8, a9, a10, a11, a12, a13, a14, a15, a16, a17, a18, a19, a20, a21, a22, a23, a24)) : wpX_readToken post (co, ir, wp, ra, la, sa, 0, od, a1, a2, a3, a4, a5, a6, a7, a8, a9, a10, a11, a12, a13, a14, a15, a16, a17, a18, a19, a20, a21, a22, a23, a24) 1 := by
  refine ⟨pk_in 1 24 (by omega), nm_r (e' := 11) h (br_t (by decide) (br_f (by decide) (br_t rfl ?_)))⟩
  exact br_f (by decide) (br_t rfl ⟨rfl, H⟩)
/-- any other sign behind an atom: it is taken, but the text doesn't end well -/
theorem mt_rtX {post : Int32 → St2 → Prop} {ir wp ra od : Int32} {a1 a2 a3 a4 a5 a6 a7 a8 a9 a10 a11 a12 a13 a14 a15 a16 a17 a18 a19 a20 a21 a22 a23 a24 : Nat → Int32} {u : Int32} (hu : mt_V u) (h3 : 3 < u.toInt) (hn : u.toInt ≠ 11) (h : a1 1 = u) (h0 : a6 0 = -1) (h1 : a6 1 = -1) (h2 : a6 2 = -1)
    (H : ∀ (la' sa' pl' : Int32) (b5 b6 b7 : Nat → Int32), (∀ pp : Int32 → Prop, pp 0 → wpX_endsWell pp (2, ir, wp, ra, la', sa', pl', od, a1, a2, a3, a4, b5, b6, b7, a8, a9, a10, a11, a12, a13, a14, a15, a16, a17, a18, a19, a20, a21, a22, a23, a24)) → post 1 (2, ir, wp, ra, la', sa', pl', od, a1, a2, a3, a4, b5, b6, b7, a8, a9, a10, a11, a12, a13, a14, a15, a16, a17, a18, a19, a20, a21, a22, a23, a24)) :
    wpX_readToken post (2, ir, wp, ra, 0, 0, 0, od, a1, a2, a3, a4, a5, a6, a7, a8, a9, a10, a11, a12, a13, a14, a15, a16, a17, a18, a19, a20, a21, a22, a23, a24) 1 := by
  refine ⟨pk_in 1 24 (by omega), nm_r (e' := u) h ?_⟩
  have e : u = 10 ∨ u = 12 ∨ u = 13 ∨ u = 14 ∨ u = 20 ∨ u = 21 ∨ u = 22 := by
    unfold mt_V at hu
    have e : u.toInt = 10 ∨ u.toInt = 12 ∨ u.toInt = 13 ∨ u.toInt = 14 ∨ u.toInt = 20 ∨ u.toInt = 21 ∨ u.toInt = 22 := by omega
    rcases e with e | e | e | e | e | e | e
    · exact Or.inl (mt_is 10 10 e)
    · exact Or.inr (Or.inl (mt_is 12 12 e))
    · exact Or.inr (Or.inr (Or.inl (mt_is 13 13 e)))
    · exact Or.inr (Or.inr (Or.inr (Or.inl (mt_is 14 14 e))))
    · exact Or.inr (Or.inr (Or.inr (Or.inr (Or.inl (mt_is 20 20 e)))))
    · exact Or.inr (Or.inr (Or.inr (Or.inr (Or.inr (Or.inl (mt_is 21 21 e))))))
    · exact Or.inr (Or.inr (Or.inr (Or.inr (Or.inr (Or.inr (mt_is 22 22 e))))))
  rcases e with rfl | rfl | rfl | rfl | rfl | rfl | rfl
  · refine br_t (by decide) (br_t rfl ?_)
    refine br_t rfl (br_f (by decide) (br_t (by decide) ⟨pk_in 0 24 (by omega), nm_e (nm_r (e' := 1) (by decide) ⟨rfl, ?_⟩)⟩))
    exact H _ _ _ _ _ _ (fun pp hp => br_t h0 (br_t h1 (br_t h2 (br_t rfl (br_f (by decide) hp)))))
  · refine br_t (by decide) (br_f (by decide) (br_f (by decide) (br_t (by decide) (br_f (by decide) (br_t (by decide) (br_f (by decide) (br_t rfl ?_)))))))
    exact H _ _ _ _ _ _ (fun pp hp => br_t h0 (br_t h1 (br_t h2 (br_t rfl (br_t rfl (br_f (by decide) hp))))))
  · refine br_t (by decide) (br_f (by decide) (br_f (by decide) (br_t (by decide) (br_f (by decide) (br_t (by decide) (br_f (by decide) (br_f (by decide) ?_)))))))
    exact H _ _ _ _ _ _ (fun pp hp => br_t h0 (br_t h1 (br_t h2 (br_t rfl (br_t rfl (br_f (by decide) hp))))))
  · refine br_t (by decide) (br_f (by decide) (br_f (by decide) (br_t (by decide) (br_f (by decide) (br_t (by decide) (br_t rfl (br_t rfl ?_)))))))
    exact H _ _ _ _ _ _ (fun pp hp => br_t h0 (br_t h1 (br_t h2 (br_t rfl (br_t rfl (br_t rfl (br_f (by decide) ⟨pk_in 1 24 (by omega), br_t h hp⟩)))))))
  · refine br_t (by decide) (br_f (by decide) (br_f (by decide) (br_f (by decide) ?_)))
    refine br_f (by decide) ⟨pk_in 0 3 (by omega), br_t h0 ⟨pk_in 0 3 (by omega), nm_r (e' := upd a6 0 0) rfl ⟨pk_in 0 3 (by omega), nm_e ⟨rfl, ?_⟩⟩⟩⟩
    exact H _ _ _ _ _ _ (fun pp hp => br_f (show ¬ (0 : Int32) = -1 by decide) (br_f (by decide) hp))
  · refine br_t (by decide) (br_f (by decide) (br_f (by decide) (br_f (by decide) ?_)))
    refine br_f (by decide) ⟨pk_in 1 3 (by omega), br_t h1 ⟨pk_in 1 3 (by omega), nm_r (e' := upd a6 1 0) rfl ⟨pk_in 1 3 (by omega), nm_e ⟨rfl, ?_⟩⟩⟩⟩
    exact H _ _ _ _ _ _ (fun pp hp => br_t (show upd a6 1 0 0 = -1 from h0) (br_f (show ¬ (0 : Int32) = -1 by decide) (br_f (by decide) hp)))
  · refine br_t (by decide) (br_f (by decide) (br_f (by decide) (br_f (by decide) ?_)))
    refine br_f (by decide) ⟨pk_in 2 3 (by omega), br_t h2 ⟨pk_in 2 3 (by omega), nm_r (e' := upd a6 2 0) rfl ⟨pk_in 2 3 (by omega), nm_e ⟨rfl, ?_⟩⟩⟩⟩
    exact H _ _ _ _ _ _ (fun pp hp => br_t (show upd a6 2 0 0 = -1 from h0) (br_t (show upd a6 2 0 1 = -1 from h1) (br_f (show ¬ (0 : Int32) = -1 by decide) (br_f (by decide) hp))))
end
section
/-! readAll -/
theorem mt_36 {post : St2 → Prop} {co ir wp ra la sa pl od : Int32} {a1 a2 a3 a4 a5 a6 a7 a8 a9 a10 a11 a12 a13 a14 a15 a16 a17 a18 a19 a20 a21 a22 a23 a24 : Nat → Int32} (H : ∀ b : Nat → Int32, b 0 = -1 → b 1 = -1 → b 2 = -1 → ∃ n, wX_readAll_56 post n 0 co ir wp ra la sa pl od a1 a2 a3 a4 a5 b a7 a8 a9 a10 a11 a12 a13 a14 a15 a16 a17 a18 a19 a20 a21 a22 a23 a24) : ∃ n, wX_readAll_36 post co ir wp ra la sa pl od n 0 a1 a2 a3 a4 a5 a6 a7 a8 a9 a10 a11 a12 a13 a14 a15 a16 a17 a18 a19 a20 a21 a22 a23 a24 :=
  ⟨4, br_f (by decide) ⟨pk_in 0 3 (by omega), nm_r (e' := upd a6 0 (-1)) rfl (nm_r (e' := 1) (by decide) (br_f (by decide) ⟨pk_in 1 3 (by omega), nm_r (e' := upd (upd a6 0 (-1)) 1 (-1)) rfl (nm_r (e' := 2) (by decide) (br_f (by decide) ⟨pk_in 2 3 (by omega), nm_r (e' := upd (upd (upd a6 0 (-1)) 1 (-1)) 2 (-1)) rfl (nm_r (e' := 3) (by decide) (br_t (by decide) (H _ rfl rfl rfl)))⟩))⟩))⟩⟩
/-- no token -/
theorem mt_56E {post : St2 → Prop} {ir ra la od : Int32} {a1 a2 a3 a4 a5 a6 a7 a8 a9 a10 a11 a12 a13 a14 a15 a16 a17 a18 a19 a20 a21 a22 a23 a24 : Nat → Int32} (h0 : a6 0 = -1) (h1 : a6 1 = -1) (h2 : a6 2 = -1) (H : post (0, 1, (-4), ra, la, 0, 0, od, a1, a2, a3, a4, a5, a6, a7, a8, a9, a10, a11, a12, a13, a14, a15, a16, a17, a18, a19, a20, a21, a22, a23, a24)) : ∃ n, wX_readAll_56 post n 0 0 ir (-4) ra la 0 0 od a1 a2 a3 a4 a5 a6 a7 a8 a9 a10 a11 a12 a13 a14 a15 a16 a17 a18 a19 a20 a21 a22 a23 a24 :=
  ⟨1, br_t (by decide) (br_t rfl (br_t h0 (br_t h1 (br_t h2 (br_t rfl (br_t rfl (br_t rfl (br_t rfl (br_f (by decide) H)))))))))⟩
/-- a sign first -/
theorem mt_56N {post : St2 → Prop} {co ir ra sa od : Int32} {a1 a2 a3 a4 a5 a6 a7 a8 a9 a10 a11 a12 a13 a14 a15 a16 a17 a18 a19 a20 a21 a22 a23 a24 : Nat → Int32} {t : Int32} (hc : co = 1 ∨ co = 2) (h3 : 3 < t.toInt) (h : a1 0 = t) (H : post (co, 1, 0, ra, (-1), sa, 0, od, a1, a2, a3, a4, a5, a6, a7, a8, a9, a10, a11, a12, a13, a14, a15, a16, a17, a18, a19, a20, a21, a22, a23, a24)) : ∃ n, wX_readAll_56 post n 0 co ir (-4) ra (-1) sa 0 od a1 a2 a3 a4 a5 a6 a7 a8 a9 a10 a11 a12 a13 a14 a15 a16 a17 a18 a19 a20 a21 a22 a23 a24 := by
  have c0 : ¬ co ≤ 0 := by rcases hc with rfl | rfl <;> decide
  refine ⟨2, br_f c0 (br_t rfl (mt_rtN h3 h (br_t rfl (nm_r (e' := 1) (by decide) ?_))))⟩
  exact br_c (fun _ => br_f (by decide) H) (fun _ => br_f (by decide) (br_f (by decide) H))
/-- one atom -/
theorem mt_56A {post : St2 → Prop} {ir od : Int32} {a1 a2 a4 a5 a6 a7 a8 a9 a10 a11 a12 a13 a14 a15 a16 a17 a18 a19 a20 a21 a22 a23 a24 : Nat → Int32} {t : Int32} (ht : t.toInt ≤ 3) (h : a1 0 = t) (h0 : a6 0 = -1) (h1 : a6 1 = -1) (h2 : a6 2 = -1)
    (H : post (1, 1, (-4), 1, 0, 0, 0, od, a1, (upd a2 0 t), (fun _ => 0), (upd a4 0 0), a5, a6, a7, a8, a9, a10, a11, a12, a13, a14, a15, a16, a17, a18, a19, a20, a21, a22, a23, a24)) : ∃ n, wX_readAll_56 post n 0 1 ir (-4) 0 (-1) 0 0 od a1 a2 (fun _ => 0) a4 a5 a6 a7 a8 a9 a10 a11 a12 a13 a14 a15 a16 a17 a18 a19 a20 a21 a22 a23 a24 := by
  have h14 : ¬ a1 0 = 14 := by
    rw [h]
    intro e
    rw [e] at ht
    exact absurd ht (by decide)
  refine ⟨2, br_f (by decide) (br_t rfl (mt_rtA1 ht h (br_f (by decide) (nm_r (e' := 1) (by decide) ?_))))⟩
  refine br_t (by decide) (br_t rfl (br_t h0 (br_t h1 (br_t h2 (br_t rfl (br_t rfl (br_t rfl (br_f (by decide) ⟨pk_in 0 24 (by omega), ?_⟩))))))))
  exact br_f h14 (br_f (by decide) H)
/-- two atoms -/
theorem mt_56AA {post : St2 → Prop} {ir od : Int32} {a1 a2 a4 a5 a6 a7 a8 a9 a10 a11 a12 a13 a14 a15 a16 a17 a18 a19 a20 a21 a22 a23 a24 : Nat → Int32} {t u : Int32} (ht : 0 ≤ t.toInt ∧ t.toInt ≤ 3) (hu : 0 ≤ u.toInt ∧ u.toInt ≤ 3) (h : a1 0 = t) (h' : a1 1 = u) (h0 : a6 0 = -1) (h1 : a6 1 = -1) (h2 : a6 2 = -1)
    (H : ∀ b : Nat → Int32, post (2, 1, (-4), 2, 1, 0, 0, od, a1, (upd (upd a2 0 t) 1 u), (upd (upd (fun _ => 0) 1 1) 7 1), b, a5, a6, a7, a8, a9, a10, a11, a12, a13, a14, a15, a16, a17, a18, a19, a20, a21, a22, a23, a24)) : ∃ n, wX_readAll_56 post n 0 2 ir (-4) 0 (-1) 0 0 od a1 a2 (fun _ => 0) a4 a5 a6 a7 a8 a9 a10 a11 a12 a13 a14 a15 a16 a17 a18 a19 a20 a21 a22 a23 a24 := by
  have h14 : ¬ a1 1 = 14 := by
    rw [h']
    intro e
    rw [e] at hu
    exact absurd hu (by decide)
  refine ⟨3, br_f (by decide) (br_t rfl (mt_rtA1 ht.2 h (br_f (by decide) (nm_r (e' := 1) (by decide) ?_))))⟩
  refine br_f (by decide) (br_t rfl (mt_rtA2 ht hu h' pk_us pk_us (fun b => br_f (by decide) (nm_r (e' := 2) (by decide) ?_))))
  refine br_t (by decide) (br_t rfl (br_t h0 (br_t h1 (br_t h2 (br_t rfl (br_t rfl (br_t rfl (br_f (by decide) ⟨pk_in 1 24 (by omega), ?_⟩))))))))
  exact br_f h14 (br_f (by decide) (H b))
/-- an atom and a closing sign -/
theorem mt_56AC {post : St2 → Prop} {ir od : Int32} {a1 a2 a4 a5 a6 a7 a8 a9 a10 a11 a12 a13 a14 a15 a16 a17 a18 a19 a20 a21 a22 a23 a24 : Nat → Int32} {t : Int32} (ht : 0 ≤ t.toInt ∧ t.toInt ≤ 3) (h : a1 0 = t) (h' : a1 1 = 11)
    (H : post (2, 1, 1, 1, 0, 0, 0, od, a1, (upd a2 0 t), (fun _ => 0), (upd a4 0 0), a5, a6, a7, a8, a9, a10, a11, a12, a13, a14, a15, a16, a17, a18, a19, a20, a21, a22, a23, a24)) : ∃ n, wX_readAll_56 post n 0 2 ir (-4) 0 (-1) 0 0 od a1 a2 (fun _ => 0) a4 a5 a6 a7 a8 a9 a10 a11 a12 a13 a14 a15 a16 a17 a18 a19 a20 a21 a22 a23 a24 := by
  refine ⟨3, br_f (by decide) (br_t rfl (mt_rtA1 ht.2 h (br_f (by decide) (nm_r (e' := 1) (by decide) ?_))))⟩
  refine br_f (by decide) (br_t rfl (mt_rtC h' (br_t rfl (nm_r (e' := 2) (by decide) ?_))))
  exact br_t (by decide) (br_f (by decide) H)
/-- an atom and another sign -/
theorem mt_56AX {post : St2 → Prop} {ir od : Int32} {a1 a2 a4 a5 a6 a7 a8 a9 a10 a11 a12 a13 a14 a15 a16 a17 a18 a19 a20 a21 a22 a23 a24 : Nat → Int32} {t u : Int32} (ht : 0 ≤ t.toInt ∧ t.toInt ≤ 3) (hu : mt_V u) (h3 : 3 < u.toInt) (hn : u.toInt ≠ 11) (h : a1 0 = t) (h' : a1 1 = u) (h0 : a6 0 = -1) (h1 : a6 1 = -1) (h2 : a6 2 = -1)
    (H : ∀ (la sa pl : Int32) (b5 b6 b7 : Nat → Int32), post (2, 1, 2, 1, la, sa, pl, od, a1, (upd a2 0 t), (fun _ => 0), (upd a4 0 0), b5, b6, b7, a8, a9, a10, a11, a12, a13, a14, a15, a16, a17, a18, a19, a20, a21, a22, a23, a24)) : ∃ n, wX_readAll_56 post n 0 2 ir (-4) 0 (-1) 0 0 od a1 a2 (fun _ => 0) a4 a5 a6 a7 a8 a9 a10 a11 a12 a13 a14 a15 a16 a17 a18 a19 a20 a21 a22 a23 a24 := by
  refine ⟨3, br_f (by decide) (br_t rfl (mt_rtA1 ht.2 h (br_f (by decide) (nm_r (e' := 1) (by decide) ?_))))⟩
  refine br_f (by decide) (br_t rfl (mt_rtX hu h3 hn h' h0 h1 h2 (fun la' sa' pl' b5 b6 b7 hE => br_f (by decide) (nm_r (e' := 2) (by decide) ?_))))
  exact br_t (by decide) (br_t rfl (hE _ (br_t rfl (H _ _ _ _ _ _))))
/-! wrongAt over what the law has written -/
theorem mt_atE {post : Int32 → St2 → Prop} {wp ra la sa pl od : Int32} {a1 a2 a3 a4 a5 a6 a7 a8 a9 a10 a11 a12 a13 a14 a15 a16 a17 a18 a19 a20 a21 a22 a23 a24 : Nat → Int32} (H : ∀ (co la sa pl : Int32) (a6 : Nat → Int32), post (-4) (co, 1, (-4), 0, la, sa, pl, od, a1, a2, a3, a4, a5, a6, a7, a8, a9, a10, a11, a12, a13, a14, a15, a16, a17, a18, a19, a20, a21, a22, a23, a24)) : wpX_wrongAt post (0, 0, wp, ra, la, sa, pl, od, a1, a2, a3, a4, a5, a6, a7, a8, a9, a10, a11, a12, a13, a14, a15, a16, a17, a18, a19, a20, a21, a22, a23, a24) := by
  unfold wpX_wrongAt
  refine br_t rfl (mt_36 (fun b h0 h1 h2 => mt_56E h0 h1 h2 ?_))
  exact H _ _ _ _ _
theorem mt_atN {post : Int32 → St2 → Prop} {co wp ra la sa pl od : Int32} {a1 a2 a3 a4 a5 a6 a7 a8 a9 a10 a11 a12 a13 a14 a15 a16 a17 a18 a19 a20 a21 a22 a23 a24 : Nat → Int32} {t : Int32} (hc : co = 1 ∨ co = 2) (h3 : 3 < t.toInt) (h : a1 0 = t) (H : ∀ (co ra la sa pl : Int32) (a2 a3 a4 a5 a6 a7 : Nat → Int32), post 0 (co, 1, 0, ra, la, sa, pl, od, a1, a2, a3, a4, a5, a6, a7, a8, a9, a10, a11, a12, a13, a14, a15, a16, a17, a18, a19, a20, a21, a22, a23, a24)) : wpX_wrongAt post (co, 0, wp, ra, la, sa, pl, od, a1, a2, a3, a4, a5, a6, a7, a8, a9, a10, a11, a12, a13, a14, a15, a16, a17, a18, a19, a20, a21, a22, a23, a24) := by
  unfold wpX_wrongAt
  refine br_t rfl (mt_36 (fun b h0 h1 h2 => mt_56N hc h3 h ?_))
  exact H _ _ _ _ _ _ _ _ _ _ _
theorem mt_atA {post : Int32 → St2 → Prop} {wp ra la sa pl od : Int32} {a1 a2 a4 a5 a6 a7 a8 a9 a10 a11 a12 a13 a14 a15 a16 a17 a18 a19 a20 a21 a22 a23 a24 : Nat → Int32} {t : Int32} (ht : t.toInt ≤ 3) (h : a1 0 = t) (H : ∀ (co la sa pl : Int32) (a2 a3 a4 a6 : Nat → Int32), a2 0 = t → post (-4) (co, 1, (-4), 1, la, sa, pl, od, a1, a2, a3, a4, a5, a6, a7, a8, a9, a10, a11, a12, a13, a14, a15, a16, a17, a18, a19, a20, a21, a22, a23, a24)) : wpX_wrongAt post (1, 0, wp, ra, la, sa, pl, od, a1, a2, (fun _ => 0), a4, a5, a6, a7, a8, a9, a10, a11, a12, a13, a14, a15, a16, a17, a18, a19, a20, a21, a22, a23, a24) := by
  unfold wpX_wrongAt
  refine br_t rfl (mt_36 (fun b h0 h1 h2 => mt_56A ht h h0 h1 h2 ?_))
  exact H _ _ _ _ _ _ _ _ pk_us
theorem mt_atAA {post : Int32 → St2 → Prop} {wp ra la sa pl od : Int32} {a1 a2 a4 a5 a6 a7 a8 a9 a10 a11 a12 a13 a14 a15 a16 a17 a18 a19 a20 a21 a22 a23 a24 : Nat → Int32} {t u : Int32} (ht : 0 ≤ t.toInt ∧ t.toInt ≤ 3) (hu : 0 ≤ u.toInt ∧ u.toInt ≤ 3) (h : a1 0 = t) (h' : a1 1 = u) (H : ∀ (co la sa pl : Int32) (a2 a4 a6 : Nat → Int32), a2 0 = t → a2 1 = u → post (-4) (co, 1, (-4), 2, la, sa, pl, od, a1, a2, (upd (upd (fun _ => 0) 1 1) 7 1), a4, a5, a6, a7, a8, a9, a10, a11, a12, a13, a14, a15, a16, a17, a18, a19, a20, a21, a22, a23, a24)) : wpX_wrongAt post (2, 0, wp, ra, la, sa, pl, od, a1, a2, (fun _ => 0), a4, a5, a6, a7, a8, a9, a10, a11, a12, a13, a14, a15, a16, a17, a18, a19, a20, a21, a22, a23, a24) := by
  unfold wpX_wrongAt
  refine br_t rfl (mt_36 (fun b h0 h1 h2 => mt_56AA ht hu h h' h0 h1 h2 (fun b4 => ?_)))
  exact H _ _ _ _ _ _ _ ((pk_un (by decide)).trans pk_us) pk_us
theorem mt_atAC {post : Int32 → St2 → Prop} {wp ra la sa pl od : Int32} {a1 a2 a4 a5 a6 a7 a8 a9 a10 a11 a12 a13 a14 a15 a16 a17 a18 a19 a20 a21 a22 a23 a24 : Nat → Int32} {t : Int32} (ht : 0 ≤ t.toInt ∧ t.toInt ≤ 3) (h : a1 0 = t) (h' : a1 1 = 11) (H : ∀ (co ra la sa pl : Int32) (a2 a3 a4 a5 a6 a7 : Nat → Int32), post 1 (co, 1, 1, ra, la, sa, pl, od, a1, a2, a3, a4, a5, a6, a7, a8, a9, a10, a11, a12, a13, a14, a15, a16, a17, a18, a19, a20, a21, a22, a23, a24)) : wpX_wrongAt post (2, 0, wp, ra, la, sa, pl, od, a1, a2, (fun _ => 0), a4, a5, a6, a7, a8, a9, a10, a11, a12, a13, a14, a15, a16, a17, a18, a19, a20, a21, a22, a23, a24) := by
  unfold wpX_wrongAt
  refine br_t rfl (mt_36 (fun b h0 h1 h2 => mt_56AC ht h h' ?_))
  exact H _ _ _ _ _ _ _ _ _ _ _
theorem mt_atAX {post : Int32 → St2 → Prop} {wp ra la sa pl od : Int32} {a1 a2 a4 a5 a6 a7 a8 a9 a10 a11 a12 a13 a14 a15 a16 a17 a18 a19 a20 a21 a22 a23 a24 : Nat → Int32} {t u : Int32} (ht : 0 ≤ t.toInt ∧ t.toInt ≤ 3) (hu : mt_V u) (h3 : 3 < u.toInt) (hn : u.toInt ≠ 11) (h : a1 0 = t) (h' : a1 1 = u) (H : ∀ (co ra la sa pl : Int32) (a2 a3 a4 a5 a6 a7 : Nat → Int32), post 2 (co, 1, 2, ra, la, sa, pl, od, a1, a2, a3, a4, a5, a6, a7, a8, a9, a10, a11, a12, a13, a14, a15, a16, a17, a18, a19, a20, a21, a22, a23, a24)) : wpX_wrongAt post (2, 0, wp, ra, la, sa, pl, od, a1, a2, (fun _ => 0), a4, a5, a6, a7, a8, a9, a10, a11, a12, a13, a14, a15, a16, a17, a18, a19, a20, a21, a22, a23, a24) := by
  unfold wpX_wrongAt
  refine br_t rfl (mt_36 (fun b h0 h1 h2 => mt_56AX ht hu h3 hn h h' h0 h1 h2 (fun la' sa' pl' b5 b6 b7 => ?_)))
  exact H _ _ _ _ _ _ _ _ _ _ _
end
section
/-! read, hydrogens, bond -/
theorem mt_slot {post : Int32 → Prop} (u : St2) {s : Int32} (hg : (s = 0 ∨ s = 1) → post 0) (hb : ¬ (s = 0 ∨ s = 1) → post 1) : wpX_badSlot post u s := by
  obtain ⟨co, ir, wp, ra, la, sa, pl, od, a1, a2, a3, a4, a5, a6, a7, a8, a9, a10, a11, a12, a13, a14, a15, a16, a17, a18, a19, a20, a21, a22, a23, a24⟩ := u
  rw [mt_s01] at hg hb
  exact mt_bl 0 (fun z => hb (by omega)) (fun z => mt_ble 1 (fun y => hg (by omega)) (fun y => hb (by omega)))
/-- a text that is wrong -/
theorem mt_readW {post : Int32 → St2 → Prop} {co wp ra la sa pl od : Int32} {a1 a2 a3 a4 a5 a6 a7 a8 a9 a10 a11 a12 a13 a14 a15 a16 a17 a18 a19 a20 a21 a22 a23 a24 : Nat → Int32} {s : Int32} (hw : ¬ wp = (-4)) (hg : (s = 0 ∨ s = 1) → post (-3) (co, 1, wp, ra, la, sa, pl, od, a1, a2, a3, a4, a5, a6, a7, a8, a9, a10, a11, a12, a13, a14, a15, a16, a17, a18, a19, a20, a21, a22, a23, a24)) (hb : ¬ (s = 0 ∨ s = 1) → post (-1) (co, 1, wp, ra, la, sa, pl, od, a1, a2, a3, a4, a5, a6, a7, a8, a9, a10, a11, a12, a13, a14, a15, a16, a17, a18, a19, a20, a21, a22, a23, a24)) : wpX_read post (co, 1, wp, ra, la, sa, pl, od, a1, a2, a3, a4, a5, a6, a7, a8, a9, a10, a11, a12, a13, a14, a15, a16, a17, a18, a19, a20, a21, a22, a23, a24) s := by
  unfold wpX_read
  refine mt_slot _ (fun g => br_t rfl ?_) (fun b => br_f (by decide) (hb b))
  exact br_f (by decide) (br_f hw (hg g))
theorem mt_read0 {post : Int32 → St2 → Prop} {co la sa pl od : Int32} {a1 a2 a3 a4 a5 a6 a7 a8 a9 a10 a11 a12 a13 a14 a15 a16 a17 a18 a19 a20 a21 a22 a23 a24 : Nat → Int32} {s : Int32} (hg : (s = 0 ∨ s = 1) → ∀ a8 : Nat → Int32, a8 s.toNatClampNeg = 0 → post 0 (co, 1, (-4), 0, la, sa, pl, od, a1, a2, a3, a4, a5, a6, a7, a8, a9, a10, a11, a12, a13, a14, a15, a16, a17, a18, a19, a20, a21, a22, a23, a24)) (hb : ¬ (s = 0 ∨ s = 1) → post (-1) (co, 1, (-4), 0, la, sa, pl, od, a1, a2, a3, a4, a5, a6, a7, a8, a9, a10, a11, a12, a13, a14, a15, a16, a17, a18, a19, a20, a21, a22, a23, a24)) : wpX_read post (co, 1, (-4), 0, la, sa, pl, od, a1, a2, a3, a4, a5, a6, a7, a8, a9, a10, a11, a12, a13, a14, a15, a16, a17, a18, a19, a20, a21, a22, a23, a24) s := by
  unfold wpX_read
  refine mt_slot _ (fun g => br_t rfl ?_) (fun b => br_f (by decide) (hb b))
  refine br_f (by decide) (br_t rfl ?_)
  have g' := g
  rcases g' with rfl | rfl
  · exact ⟨pk_in 0 2 (by omega), nm_e ⟨1, br_t (by decide) (hg g _ pk_us)⟩⟩
  · exact ⟨pk_in 1 2 (by omega), nm_e ⟨1, br_t (by decide) (hg g _ pk_us)⟩⟩
theorem mt_read1 {post : Int32 → St2 → Prop} {co la sa pl od : Int32} {a1 a2 a3 a4 a5 a6 a7 a8 a9 a10 a11 a12 a13 a14 a15 a16 a17 a18 a19 a20 a21 a22 a23 a24 : Nat → Int32} {s : Int32} (hg : (s = 0 ∨ s = 1) → ∀ a8 a9 a10 : Nat → Int32, a8 s.toNatClampNeg = 1 → a9 (7 * s + 0).toNatClampNeg = a2 0 → post 1 (co, 1, (-4), 1, la, sa, pl, od, a1, a2, a3, a4, a5, a6, a7, a8, a9, a10, a11, a12, a13, a14, a15, a16, a17, a18, a19, a20, a21, a22, a23, a24)) (hb : ¬ (s = 0 ∨ s = 1) → post (-1) (co, 1, (-4), 1, la, sa, pl, od, a1, a2, a3, a4, a5, a6, a7, a8, a9, a10, a11, a12, a13, a14, a15, a16, a17, a18, a19, a20, a21, a22, a23, a24)) : wpX_read post (co, 1, (-4), 1, la, sa, pl, od, a1, a2, a3, a4, a5, a6, a7, a8, a9, a10, a11, a12, a13, a14, a15, a16, a17, a18, a19, a20, a21, a22, a23, a24) s := by
  unfold wpX_read
  refine mt_slot _ (fun g => br_t rfl ?_) (fun b => br_f (by decide) (hb b))
  refine br_f (by decide) (br_t rfl ?_)
  have g' := g
  rcases g' with rfl | rfl
  · refine ⟨pk_in 0 2 (by omega), nm_e ⟨2, ?_⟩⟩
    refine br_f (by decide) ⟨pk_in 0 7 (by omega), pk_in 0 14 (by omega), nm_e ⟨2, ?_⟩⟩
    refine br_f (by decide) ⟨pk_in 0 49 (by omega), pk_in 0 98 (by omega), nm_e (nm_r (e' := 1) (by decide) ?_)⟩
    refine br_t (by decide) (nm_r (e' := 1) (by decide) ?_)
    exact br_t (by decide) (hg g _ _ _ pk_us pk_us)
  · refine ⟨pk_in 1 2 (by omega), nm_e ⟨2, ?_⟩⟩
    refine br_f (by decide) ⟨pk_in 0 7 (by omega), pk_in 7 14 (by omega), nm_e ⟨2, ?_⟩⟩
    refine br_f (by decide) ⟨pk_in 0 49 (by omega), pk_in 49 98 (by omega), nm_e (nm_r (e' := 1) (by decide) ?_)⟩
    refine br_t (by decide) (nm_r (e' := 1) (by decide) ?_)
    exact br_t (by decide) (hg g _ _ _ pk_us pk_us)
theorem mt_read2 {post : Int32 → St2 → Prop} {co la sa pl od : Int32} {a1 a2 a3 a4 a5 a6 a7 a8 a9 a10 a11 a12 a13 a14 a15 a16 a17 a18 a19 a20 a21 a22 a23 a24 : Nat → Int32} {s : Int32} (h1 : a3 1 = 1) (h7 : a3 7 = 1) (hg : (s = 0 ∨ s = 1) → ∀ a8 a9 a10 : Nat → Int32, a8 s.toNatClampNeg = 2 → a9 (7 * s + 0).toNatClampNeg = a2 0 → a9 (7 * s + 1).toNatClampNeg = a2 1 → a10 (49 * s + 7 * 0 + 1).toNatClampNeg = 1 → a10 (49 * s + 7 * 1 + 0).toNatClampNeg = 1 → post 2 (co, 1, (-4), 2, la, sa, pl, od, a1, a2, a3, a4, a5, a6, a7, a8, a9, a10, a11, a12, a13, a14, a15, a16, a17, a18, a19, a20, a21, a22, a23, a24)) (hb : ¬ (s = 0 ∨ s = 1) → post (-1) (co, 1, (-4), 2, la, sa, pl, od, a1, a2, a3, a4, a5, a6, a7, a8, a9, a10, a11, a12, a13, a14, a15, a16, a17, a18, a19, a20, a21, a22, a23, a24)) : wpX_read post (co, 1, (-4), 2, la, sa, pl, od, a1, a2, a3, a4, a5, a6, a7, a8, a9, a10, a11, a12, a13, a14, a15, a16, a17, a18, a19, a20, a21, a22, a23, a24) s := by
  unfold wpX_read
  refine mt_slot _ (fun g => br_t rfl ?_) (fun b => br_f (by decide) (hb b))
  refine br_f (by decide) (br_t rfl ?_)
  have g' := g
  rcases g' with rfl | rfl
  · refine ⟨pk_in 0 2 (by omega), nm_e ⟨3, ?_⟩⟩
    refine br_f (by decide) ⟨pk_in 0 7 (by omega), pk_in 0 14 (by omega), nm_r (e' := upd a9 0 (a2 0)) rfl ⟨3, ?_⟩⟩
    refine br_f (by decide) ⟨pk_in 0 49 (by omega), pk_in 0 98 (by omega), nm_r (e' := upd a10 0 (a3 0)) rfl (nm_r (e' := 1) (by decide) ?_)⟩
    refine br_f (by decide) ⟨pk_in 1 49 (by omega), pk_in 1 98 (by omega), nm_r (e' := upd (upd a10 0 (a3 0)) 1 (a3 1)) rfl (nm_r (e' := 2) (by decide) ?_)⟩
    refine br_t (by decide) (nm_r (e' := 1) (by decide) ?_)
    refine br_f (by decide) ⟨pk_in 1 7 (by omega), pk_in 1 14 (by omega), nm_r (e' := upd (upd a9 0 (a2 0)) 1 (a2 1)) rfl ⟨3, ?_⟩⟩
    refine br_f (by decide) ⟨pk_in 7 49 (by omega), pk_in 7 98 (by omega), nm_r (e' := upd (upd (upd a10 0 (a3 0)) 1 (a3 1)) 7 (a3 7)) rfl (nm_r (e' := 1) (by decide) ?_)⟩
    refine br_f (by decide) ⟨pk_in 8 49 (by omega), pk_in 8 98 (by omega), nm_r (e' := upd (upd (upd (upd a10 0 (a3 0)) 1 (a3 1)) 7 (a3 7)) 8 (a3 8)) rfl (nm_r (e' := 2) (by decide) ?_)⟩
    refine br_t (by decide) (nm_r (e' := 2) (by decide) ?_)
    exact br_t (by decide) (hg g _ _ _ pk_us rfl rfl (show upd (upd (upd (upd a10 0 (a3 0)) 1 (a3 1)) 7 (a3 7)) 8 (a3 8) 1 = 1 from h1) (show upd (upd (upd (upd a10 0 (a3 0)) 1 (a3 1)) 7 (a3 7)) 8 (a3 8) 7 = 1 from h7))
  · refine ⟨pk_in 1 2 (by omega), nm_e ⟨3, ?_⟩⟩
    refine br_f (by decide) ⟨pk_in 0 7 (by omega), pk_in 7 14 (by omega), nm_r (e' := upd a9 7 (a2 0)) rfl ⟨3, ?_⟩⟩
    refine br_f (by decide) ⟨pk_in 0 49 (by omega), pk_in 49 98 (by omega), nm_r (e' := upd a10 49 (a3 0)) rfl (nm_r (e' := 1) (by decide) ?_)⟩
    refine br_f (by decide) ⟨pk_in 1 49 (by omega), pk_in 50 98 (by omega), nm_r (e' := upd (upd a10 49 (a3 0)) 50 (a3 1)) rfl (nm_r (e' := 2) (by decide) ?_)⟩
    refine br_t (by decide) (nm_r (e' := 1) (by decide) ?_)
    refine br_f (by decide) ⟨pk_in 1 7 (by omega), pk_in 8 14 (by omega), nm_r (e' := upd (upd a9 7 (a2 0)) 8 (a2 1)) rfl ⟨3, ?_⟩⟩
    refine br_f (by decide) ⟨pk_in 7 49 (by omega), pk_in 56 98 (by omega), nm_r (e' := upd (upd (upd a10 49 (a3 0)) 50 (a3 1)) 56 (a3 7)) rfl (nm_r (e' := 1) (by decide) ?_)⟩
    refine br_f (by decide) ⟨pk_in 8 49 (by omega), pk_in 57 98 (by omega), nm_r (e' := upd (upd (upd (upd a10 49 (a3 0)) 50 (a3 1)) 56 (a3 7)) 57 (a3 8)) rfl (nm_r (e' := 2) (by decide) ?_)⟩
    refine br_t (by decide) (nm_r (e' := 2) (by decide) ?_)
    exact br_t (by decide) (hg g _ _ _ pk_us rfl rfl (show upd (upd (upd (upd a10 49 (a3 0)) 50 (a3 1)) 56 (a3 7)) 57 (a3 8) 50 = 1 from h1) (show upd (upd (upd (upd a10 49 (a3 0)) 50 (a3 1)) 56 (a3 7)) 57 (a3 8) 56 = 1 from h7))
theorem mt_sin {s : Int32} (h : s = 0 ∨ s = 1) : vp_in s 2 := by
  rcases h with rfl | rfl
  · exact pk_in 0 2 (by omega)
  · exact pk_in 1 2 (by omega)
theorem mt_sin7 {s : Int32} (h : s = 0 ∨ s = 1) : vp_in (7 * s + 0) 14 ∧ vp_in (7 * s + 1) 14 ∧ vp_in (49 * s + 7 * 0 + 1) 98 ∧ vp_in (49 * s + 7 * 1 + 0) 98 := by
  rcases h with rfl | rfl
  · exact ⟨pk_in 0 14 (by omega), pk_in 1 14 (by omega), pk_in 1 98 (by omega), pk_in 7 98 (by omega)⟩
  · exact ⟨pk_in 7 14 (by omega), pk_in 8 14 (by omega), pk_in 50 98 (by omega), pk_in 56 98 (by omega)⟩
theorem mt_hydB {post : Int32 → Prop} {co ir wp ra la sa pl od : Int32} {a1 a2 a3 a4 a5 a6 a7 a8 a9 a10 a11 a12 a13 a14 a15 a16 a17 a18 a19 a20 a21 a22 a23 a24 : Nat → Int32} {s a : Int32} (hs : ¬ (s = 0 ∨ s = 1)) (H : post (-1)) : wpX_hydrogens post (co, ir, wp, ra, la, sa, pl, od, a1, a2, a3, a4, a5, a6, a7, a8, a9, a10, a11, a12, a13, a14, a15, a16, a17, a18, a19, a20, a21, a22, a23, a24) s a := by
  unfold wpX_hydrogens
  exact mt_slot _ (fun g => absurd g hs) (fun b => br_f (by decide) H)
theorem mt_bondB {post : Int32 → Prop} {co ir wp ra la sa pl od : Int32} {a1 a2 a3 a4 a5 a6 a7 a8 a9 a10 a11 a12 a13 a14 a15 a16 a17 a18 a19 a20 a21 a22 a23 a24 : Nat → Int32} {s a b : Int32} (hs : ¬ (s = 0 ∨ s = 1)) (H : post (-1)) : wpX_bond post (co, ir, wp, ra, la, sa, pl, od, a1, a2, a3, a4, a5, a6, a7, a8, a9, a10, a11, a12, a13, a14, a15, a16, a17, a18, a19, a20, a21, a22, a23, a24) s a b := by
  unfold wpX_bond
  exact mt_slot _ (fun g => absurd g hs) (fun b => br_f (by decide) H)
theorem mt_hyd0 {post : Int32 → Prop} {co ir wp ra la sa pl od : Int32} {a1 a2 a3 a4 a5 a6 a7 a8 a9 a10 a11 a12 a13 a14 a15 a16 a17 a18 a19 a20 a21 a22 a23 a24 : Nat → Int32} {s a : Int32} (hs : s = 0 ∨ s = 1) (h8 : a8 s.toNatClampNeg = 0) (H : a = -1 → post 0) (H' : ¬ a = -1 → post (-4)) : wpX_hydrogens post (co, ir, wp, ra, la, sa, pl, od, a1, a2, a3, a4, a5, a6, a7, a8, a9, a10, a11, a12, a13, a14, a15, a16, a17, a18, a19, a20, a21, a22, a23, a24) s a := by
  unfold wpX_hydrogens
  refine mt_slot _ (fun g => br_t rfl (br_c (fun e => ⟨1, mt_sin hs, br_t (by rw [h8]; decide) (H e)⟩) (fun e => ?_))) (fun b => absurd hs b)
  refine mt_bl 0 (fun z => br_f (by decide) (H' e)) (fun z => ⟨mt_sin hs, br_f ?_ (br_f (by decide) (H' e))⟩)
  rw [h8, Int32.lt_iff_toInt_lt, show (0 : Int32).toInt = 0 by decide]
  omega
theorem mt_bond0 {post : Int32 → Prop} {co ir wp ra la sa pl od : Int32} {a1 a2 a3 a4 a5 a6 a7 a8 a9 a10 a11 a12 a13 a14 a15 a16 a17 a18 a19 a20 a21 a22 a23 a24 : Nat → Int32} {s : Int32} (hs : s = 0 ∨ s = 1) (h8 : a8 s.toNatClampNeg = 0) (H : post 0) : wpX_bond post (co, ir, wp, ra, la, sa, pl, od, a1, a2, a3, a4, a5, a6, a7, a8, a9, a10, a11, a12, a13, a14, a15, a16, a17, a18, a19, a20, a21, a22, a23, a24) s 0 1 := by
  unfold wpX_bond
  refine mt_slot _ (fun g => br_t rfl ?_) (fun b => absurd hs b)
  exact br_f (by decide) ⟨mt_sin hs, br_f (by rw [h8]; decide) (br_f (by decide) H)⟩
theorem mt_bond1 {post : Int32 → Prop} {co ir wp ra la sa pl od : Int32} {a1 a2 a3 a4 a5 a6 a7 a8 a9 a10 a11 a12 a13 a14 a15 a16 a17 a18 a19 a20 a21 a22 a23 a24 : Nat → Int32} {s : Int32} (hs : s = 0 ∨ s = 1) (h8 : a8 s.toNatClampNeg = 1) (H : post 0) : wpX_bond post (co, ir, wp, ra, la, sa, pl, od, a1, a2, a3, a4, a5, a6, a7, a8, a9, a10, a11, a12, a13, a14, a15, a16, a17, a18, a19, a20, a21, a22, a23, a24) s 0 1 := by
  unfold wpX_bond
  refine mt_slot _ (fun g => br_t rfl ?_) (fun b => absurd hs b)
  refine br_f (by decide) ⟨mt_sin hs, br_t (by rw [h8]; decide) (br_t rfl ?_)⟩
  exact br_f (by decide) ⟨mt_sin hs, br_f (by rw [h8]; decide) (br_f (by decide) H)⟩
theorem mt_bond2 {post : Int32 → Prop} {co ir wp ra la sa pl od : Int32} {a1 a2 a3 a4 a5 a6 a7 a8 a9 a10 a11 a12 a13 a14 a15 a16 a17 a18 a19 a20 a21 a22 a23 a24 : Nat → Int32} {s : Int32} (hs : s = 0 ∨ s = 1) (h8 : a8 s.toNatClampNeg = 2) (h10 : a10 (49 * s + 7 * 0 + 1).toNatClampNeg = 1) (H : post 1) : wpX_bond post (co, ir, wp, ra, la, sa, pl, od, a1, a2, a3, a4, a5, a6, a7, a8, a9, a10, a11, a12, a13, a14, a15, a16, a17, a18, a19, a20, a21, a22, a23, a24) s 0 1 := by
  unfold wpX_bond
  refine mt_slot _ (fun g => br_t rfl ?_) (fun b => absurd hs b)
  refine br_f (by decide) ⟨mt_sin hs, br_t (by rw [h8]; decide) (br_t rfl ?_)⟩
  refine br_f (by decide) ⟨mt_sin hs, br_t (by rw [h8]; decide) (br_t rfl (br_f (by decide) ?_))⟩
  refine ⟨(mt_sin7 hs).2.2.1, ?_⟩
  dsimp only
  rw [h10]
  exact H
theorem mt_of1 {post : Int32 → Prop} {co ir wp ra la sa pl od : Int32} {a1 a2 a3 a4 a5 a6 a7 a8 a9 a10 a11 a12 a13 a14 a15 a16 a17 a18 a19 a20 a21 a22 a23 a24 : Nat → Int32} {s t : Int32} (hs : s = 0 ∨ s = 1) (h8 : a8 s.toNatClampNeg = 1) (h9 : a9 (7 * s + 0).toNatClampNeg = t) (H : post (4 - t)) : wpX_hydrogensOf post (co, ir, wp, ra, la, sa, pl, od, a1, a2, a3, a4, a5, a6, a7, a8, a9, a10, a11, a12, a13, a14, a15, a16, a17, a18, a19, a20, a21, a22, a23, a24) s 0 := by
  refine ⟨(mt_sin7 hs).1, ?_⟩
  rw [h9]
  refine ⟨2, mt_sin hs, br_f (by rw [h8]; decide) (br_t rfl (nm_r (e' := 1) (by decide) ?_))⟩
  exact ⟨mt_sin hs, br_t (by rw [h8]; decide) H⟩
theorem mt_of20 {post : Int32 → Prop} {co ir wp ra la sa pl od : Int32} {a1 a2 a3 a4 a5 a6 a7 a8 a9 a10 a11 a12 a13 a14 a15 a16 a17 a18 a19 a20 a21 a22 a23 a24 : Nat → Int32} {s t : Int32} (hs : s = 0 ∨ s = 1) (h8 : a8 s.toNatClampNeg = 2) (h9 : a9 (7 * s + 0).toNatClampNeg = t) (h10 : a10 (49 * s + 7 * 0 + 1).toNatClampNeg = 1) (H : post (4 - t - 1)) : wpX_hydrogensOf post (co, ir, wp, ra, la, sa, pl, od, a1, a2, a3, a4, a5, a6, a7, a8, a9, a10, a11, a12, a13, a14, a15, a16, a17, a18, a19, a20, a21, a22, a23, a24) s 0 := by
  refine ⟨(mt_sin7 hs).1, ?_⟩
  rw [h9]
  refine ⟨3, mt_sin hs, br_f (by rw [h8]; decide) (br_t rfl (nm_r (e' := 1) (by decide) ?_))⟩
  refine ⟨mt_sin hs, br_f (by rw [h8]; decide) (br_f (by decide) ⟨(mt_sin7 hs).2.2.1, ?_⟩)⟩
  refine nm_r (e' := 4 - t - 1) (by rw [h10]) (nm_r (e' := 2) (by decide) ?_)
  exact ⟨mt_sin hs, br_t (by rw [h8]; decide) H⟩
theorem mt_of21 {post : Int32 → Prop} {co ir wp ra la sa pl od : Int32} {a1 a2 a3 a4 a5 a6 a7 a8 a9 a10 a11 a12 a13 a14 a15 a16 a17 a18 a19 a20 a21 a22 a23 a24 : Nat → Int32} {s t : Int32} (hs : s = 0 ∨ s = 1) (h8 : a8 s.toNatClampNeg = 2) (h9 : a9 (7 * s + 1).toNatClampNeg = t) (h10 : a10 (49 * s + 7 * 1 + 0).toNatClampNeg = 1) (H : post (4 - t - 1)) : wpX_hydrogensOf post (co, ir, wp, ra, la, sa, pl, od, a1, a2, a3, a4, a5, a6, a7, a8, a9, a10, a11, a12, a13, a14, a15, a16, a17, a18, a19, a20, a21, a22, a23, a24) s 1 := by
  refine ⟨(mt_sin7 hs).2.1, ?_⟩
  rw [h9]
  refine ⟨3, mt_sin hs, br_f (by rw [h8]; decide) (br_f (by decide) ⟨(mt_sin7 hs).2.2.2, ?_⟩)⟩
  refine nm_r (e' := 4 - t - 1) (by rw [h10]) (nm_r (e' := 1) (by decide) ?_)
  refine ⟨mt_sin hs, br_f (by rw [h8]; decide) (br_t rfl (nm_r (e' := 2) (by decide) ?_))⟩
  exact ⟨mt_sin hs, br_t (by rw [h8]; decide) H⟩
theorem mt_hyd1 {post : Int32 → Prop} {co ir wp ra la sa pl od : Int32} {a1 a2 a3 a4 a5 a6 a7 a8 a9 a10 a11 a12 a13 a14 a15 a16 a17 a18 a19 a20 a21 a22 a23 a24 : Nat → Int32} {s a t : Int32} (hs : s = 0 ∨ s = 1) (h8 : a8 s.toNatClampNeg = 1) (h9 : a9 (7 * s + 0).toNatClampNeg = t)
    (H : a = -1 → post (4 - t)) (H0 : a = 0 → post (4 - t)) (H' : ¬ a = -1 → ¬ (0 ≤ a.toInt ∧ a.toInt < 1) → post (-4)) : wpX_hydrogens post (co, ir, wp, ra, la, sa, pl, od, a1, a2, a3, a4, a5, a6, a7, a8, a9, a10, a11, a12, a13, a14, a15, a16, a17, a18, a19, a20, a21, a22, a23, a24) s a := by
  unfold wpX_hydrogens
  refine mt_slot _ (fun g => br_t rfl (br_c (fun e => ?_) (fun e => ?_))) (fun b => absurd hs b)
  · refine ⟨2, mt_sin hs, br_f (by rw [h8]; decide) (mt_of1 hs h8 h9 (nm_r (e' := 4 - t) (Int32.zero_add _) (nm_r (e' := 1) (by decide) ?_)))⟩
    exact ⟨mt_sin hs, br_t (by rw [h8]; decide) (H e)⟩
  · refine mt_bl 0 (fun z => br_f (by decide) (H' e (by omega))) (fun z => ⟨mt_sin hs, ?_⟩)
    rw [h8]
    refine mt_bl 1 (fun y => br_t rfl ?_) (fun y => br_f (by decide) (H' e (by omega)))
    have e0 : a = 0 := mt_is 0 0 (by omega)
    subst e0
    exact mt_of1 hs h8 h9 (H0 rfl)
theorem mt_hyd2 {post : Int32 → Prop} {co ir wp ra la sa pl od : Int32} {a1 a2 a3 a4 a5 a6 a7 a8 a9 a10 a11 a12 a13 a14 a15 a16 a17 a18 a19 a20 a21 a22 a23 a24 : Nat → Int32} {s a t u : Int32} (hs : s = 0 ∨ s = 1) (h8 : a8 s.toNatClampNeg = 2) (h9 : a9 (7 * s + 0).toNatClampNeg = t) (h9' : a9 (7 * s + 1).toNatClampNeg = u) (h10 : a10 (49 * s + 7 * 0 + 1).toNatClampNeg = 1) (h10' : a10 (49 * s + 7 * 1 + 0).toNatClampNeg = 1)
    (H : a = -1 → post ((4 - t - 1) + (4 - u - 1))) (H0 : a = 0 → post (4 - t - 1)) (H1 : a = 1 → post (4 - u - 1)) (H' : ¬ a = -1 → ¬ (0 ≤ a.toInt ∧ a.toInt < 2) → post (-4)) : wpX_hydrogens post (co, ir, wp, ra, la, sa, pl, od, a1, a2, a3, a4, a5, a6, a7, a8, a9, a10, a11, a12, a13, a14, a15, a16, a17, a18, a19, a20, a21, a22, a23, a24) s a := by
  unfold wpX_hydrogens
  refine mt_slot _ (fun g => br_t rfl (br_c (fun e => ?_) (fun e => ?_))) (fun b => absurd hs b)
  · refine ⟨3, mt_sin hs, br_f (by rw [h8]; decide) (mt_of20 hs h8 h9 h10 (nm_r (e' := 4 - t - 1) (Int32.zero_add _) (nm_r (e' := 1) (by decide) ?_)))⟩
    refine ⟨mt_sin hs, br_f (by rw [h8]; decide) (mt_of21 hs h8 h9' h10' (nm_e (nm_r (e' := 2) (by decide) ?_)))⟩
    exact ⟨mt_sin hs, br_t (by rw [h8]; decide) (H e)⟩
  · refine mt_bl 0 (fun z => br_f (by decide) (H' e (by omega))) (fun z => ⟨mt_sin hs, ?_⟩)
    rw [h8]
    refine mt_bl 2 (fun y => br_t rfl ?_) (fun y => br_f (by decide) (H' e (by omega)))
    have e1 : a.toInt = 0 ∨ a.toInt = 1 := by omega
    rcases e1 with e1 | e1
    · have e0 : a = 0 := mt_is 0 0 e1
      subst e0
      exact mt_of20 hs h8 h9 h10 (H0 rfl)
    · have e0 : a = 1 := mt_is 1 1 e1
      subst e0
      exact mt_of21 hs h8 h9' h10' (H1 rfl)
end
section
/-! the law's own checks -/
/-- what the last three answers are: w the wrong place or -4, n the atoms read, X and Y their hydrogens -/
def mt_G (s a w n X Y x8 x9 x10 : Int32) : Prop :=
  (¬ (s = 0 ∨ s = 1) → x8 = -1 ∧ x9 = -1 ∧ x10 = -1) ∧
  ((s = 0 ∨ s = 1) → ((w = -4 ∧ x8 = n) ∨ (¬ w = -4 ∧ x8 = -3)) ∧ ((n = 2 ∧ x10 = 1) ∨ (¬ n = 2 ∧ x10 = 0)) ∧
    (a = -1 → (n = 0 ∧ x9 = 0) ∨ (n = 1 ∧ x9 = X) ∨ (¬ n = 0 ∧ ¬ n = 1 ∧ x9 = X + Y)) ∧
    (¬ a = -1 → (a < 0 ∨ n ≤ a) → x9 = -4) ∧ (¬ n ≤ a → a = 0 → x9 = X) ∧ (¬ a = -1 → ¬ a < 0 → ¬ n ≤ a → ¬ a = 0 → x9 = Y))
theorem mt_468 {post : Int32 → St0 → Prop} {mc ms kc ks : Nat} {x10 x20 z0 z1 : Int32} (hz : z1 = z0) (hE : (x20 = 2 ∧ x10 = 1) ∨ (¬ x20 = 2 ∧ x10 = 0)) (H : post 1 ()) : wL_lawOf_468 post mc ms x10 1 x20 z0 z1 kc ks := by
  refine br_t hz (br_f (by decide) ?_)
  rcases hE with ⟨e, e'⟩ | ⟨e, e'⟩
  · exact br_t e (br_t e' H)
  · exact br_f e (br_t e' H)
theorem mt_418 {post : Int32 → St0 → Prop} {mc ms kc ks : Nat} {a x9 x10 x20 x21 x22 x23 z0 z1 : Int32} (hz : z1 = z0) (hE : (x20 = 2 ∧ x10 = 1) ∨ (¬ x20 = 2 ∧ x10 = 0))
    (hA : a = -1 → x9 = x23) (hB : ¬ a = -1 → (a < 0 ∨ x20 ≤ a) → x9 = -4) (hC : ¬ x20 ≤ a → a = 0 → x9 = x21) (hD : ¬ a = -1 → ¬ a < 0 → ¬ x20 ≤ a → ¬ a = 0 → x9 = x22) (H : post 1 ()) :
    wL_lawOf_418 post mc ms a x9 x10 1 x20 x21 x22 x23 z0 z1 kc ks :=
  br_t hz (br_f (by decide) (br_c (fun e => mt_468 (hA e) hE H) (fun e => br_c (fun n => mt_468 (hB e (Or.inl n)) hE H) (fun n => br_c (fun m => mt_468 (hB e (Or.inr m)) hE H) (fun m => br_c (fun q => mt_468 (hC m q) hE H) (fun q => mt_468 (hD e n m q) hE H))))))
theorem mt_385 {post : Int32 → St0 → Prop} {mc ms kc ks : Nat} {a x7 x8 x9 x10 x19 x20 x21 x22 x23 z : Int32} (h8 : (x19 = 0 ∧ x8 = -3) ∨ (¬ x19 = 0 ∧ x8 = x20)) (hE : (x20 = 2 ∧ x10 = 1) ∨ (¬ x20 = 2 ∧ x10 = 0))
    (hA : a = -1 → x9 = x23) (hB : ¬ a = -1 → (a < 0 ∨ x20 ≤ a) → x9 = -4) (hC : ¬ x20 ≤ a → a = 0 → x9 = x21) (hD : ¬ a = -1 → ¬ a < 0 → ¬ x20 ≤ a → ¬ a = 0 → x9 = x22) (H : post 1 ()) :
    wL_lawOf_385 post mc ms a x7 x8 x9 x10 x7 1 x19 x20 x21 x22 x23 z z kc ks := by
  refine br_t rfl (br_t rfl (br_f (by decide) ?_))
  rcases h8 with ⟨e, e'⟩ | ⟨e, e'⟩
  · exact br_t e (mt_418 e' hE hA hB hC hD H)
  · exact br_f e (mt_418 e' hE hA hB hC hD H)
theorem mt_385b {post : Int32 → St0 → Prop} {mc ms kc ks : Nat} {a x7 x19 x20 x21 x22 x23 z : Int32} (H : post 1 ()) : wL_lawOf_385 post mc ms a x7 (-1) (-1) (-1) x7 0 x19 x20 x21 x22 x23 z z kc ks :=
  br_t rfl (br_t rfl (br_t rfl (br_t rfl (br_t rfl (br_t rfl (br_t rfl (br_t rfl H)))))))
theorem mt_355 {post : Int32 → St0 → Prop} {mc ms kc ks : Nat} {a x5 x6 x7 x8 x9 x10 x11 x12 x13 x17 x18 x19 x20 x21 x22 x23 : Int32} (h5 : (x11 = 0 ∧ x5 = -1) ∨ (¬ x11 = 0 ∧ x5 = 1)) (h6 : (x12 = 0 ∧ x6 = -1) ∨ (¬ x12 = 0 ∧ x6 = x13))
    (K : ∀ z, wL_lawOf_385 post mc ms a x7 x8 x9 x10 x17 x18 x19 x20 x21 x22 x23 z z kc ks) : wL_lawOf_355 post mc ms a x5 x6 x7 x8 x9 x10 x11 x12 x13 x17 x18 x19 x20 x21 x22 x23 kc ks := by
  have k6 : ∀ z : Int32, wL_lawOf_369 post mc ms a x6 x7 x8 x9 x10 x12 x13 x17 x18 x19 x20 x21 x22 x23 z z kc ks := by
    intro z
    rcases h6 with ⟨e, e'⟩ | ⟨e, e'⟩
    · subst e'
      exact br_t rfl (br_t e (K _))
    · subst e'
      exact br_t rfl (br_f e (K _))
  rcases h5 with ⟨e, e'⟩ | ⟨e, e'⟩
  · subst e'
    exact br_t e (k6 _)
  · subst e'
    exact br_f e (k6 _)
theorem mt_320 {post : Int32 → St0 → Prop} {mc ms kc ks : Nat} {x1 a x5 x6 x7 x8 x9 x10 x11 x12 x13 x17 x18 x19 x20 q b : Int32} (h5 : (x11 = 0 ∧ x5 = -1) ∨ (¬ x11 = 0 ∧ x5 = 1)) (h6 : (x12 = 0 ∧ x6 = -1) ∨ (¬ x12 = 0 ∧ x6 = x13))
    (K : ∀ x23, ((x20 = 0 ∧ x23 = 0) ∨ (x20 = 1 ∧ x23 = b - q) ∨ (¬ x20 = 0 ∧ ¬ x20 = 1 ∧ x23 = (b - q) + (4 - x1 - 1))) → ∀ z, wL_lawOf_385 post mc ms a x7 x8 x9 x10 x17 x18 x19 x20 (b - q) (4 - x1 - 1) x23 z z kc ks) :
    wL_lawOf_320 post mc ms x1 a x5 x6 x7 x8 x9 x10 x11 x12 x13 x17 x18 x19 x20 q b kc ks :=
  nm_e (nm_e (br_c (fun e => mt_355 h5 h6 (K _ (Or.inl ⟨e, rfl⟩))) (fun e => br_c (fun e' => mt_355 h5 h6 (K _ (Or.inr (Or.inl ⟨e', rfl⟩)))) (fun e' => mt_355 h5 h6 (K _ (Or.inr (Or.inr ⟨e, e', rfl⟩)))))))
theorem mt_277 {post : Int32 → St0 → Prop} {mc ms kc ks : Nat} {x1 a x5 x6 x7 x8 x9 x10 x11 x12 x13 x14 x16 w x18 n q : Int32} (hn : (w = -4 ∧ n = x13) ∨ (¬ w = -4 ∧ n = 0)) (hq : (x16 = 0 ∧ q = 0) ∨ (¬ x16 = 0 ∧ q = 1))
    (K : ∀ x19, ((w = -4 ∧ x19 = 1) ∨ (¬ w = -4 ∧ x19 = 0)) → wL_lawOf_320 post mc ms x1 a x5 x6 x7 x8 x9 x10 x11 x12 x13 w x18 x19 n q (4 - x14) kc ks) :
    wL_lawOf_277 post mc ms x1 a x5 x6 x7 x8 x9 x10 x11 x12 x13 x14 x16 w x18 kc ks := by
  have k : ∀ x19, ((w = -4 ∧ x19 = 1) ∨ (¬ w = -4 ∧ x19 = 0)) → wL_lawOf_304 post mc ms x1 a x5 x6 x7 x8 x9 x10 x11 x12 x13 x14 x16 w x18 x19 n kc ks := by
    intro x19 h
    rcases hq with ⟨e, e'⟩ | ⟨e, e'⟩
    · subst e'
      exact br_t e (K x19 h)
    · subst e'
      exact br_f e (K x19 h)
  rcases hn with ⟨e, e'⟩ | ⟨e, e'⟩
  · subst e'
    exact br_t e (br_f (by decide) (k 1 (Or.inl ⟨e, rfl⟩)))
  · subst e'
    exact br_f e (br_t rfl (k 0 (Or.inr ⟨e, rfl⟩)))
theorem mt_261 {post : Int32 → St0 → Prop} {mc ms kc ks : Nat} {x1 s a x5 x6 x8 x9 x10 x11 x12 x13 x14 x16 w n q : Int32} (h5 : (x11 = 0 ∧ x5 = -1) ∨ (¬ x11 = 0 ∧ x5 = 1)) (h6 : (x12 = 0 ∧ x6 = -1) ∨ (¬ x12 = 0 ∧ x6 = x13))
    (hn : (w = -4 ∧ n = x13) ∨ (¬ w = -4 ∧ n = 0)) (hq : (x16 = 0 ∧ q = 0) ∨ (¬ x16 = 0 ∧ q = 1)) (G : mt_G s a w n (4 - x14 - q) (4 - x1 - 1) x8 x9 x10) (H : post 1 ()) :
    wL_lawOf_261 post mc ms x1 s a x5 x6 w x8 x9 x10 x11 x12 x13 x14 x16 w kc ks := by
  by_cases hs : s = 0 ∨ s = 1
  · have k : wL_lawOf_277 post mc ms x1 a x5 x6 w x8 x9 x10 x11 x12 x13 x14 x16 w 1 kc ks := by
      obtain ⟨g1, g2, g3, g4, g5, g6⟩ := G.2 hs
      refine mt_277 hn hq (fun x19 e19 => mt_320 h5 h6 (fun x23 e23 z => mt_385 ?_ g2 (fun e => ?_) g4 g5 g6 H))
      · rcases e19 with ⟨e, e'⟩ | ⟨e, e'⟩
        · rcases g1 with ⟨f, f'⟩ | ⟨f, f'⟩
          · exact Or.inr ⟨by rw [e']; decide, f'⟩
          · exact absurd e f
        · rcases g1 with ⟨f, f'⟩ | ⟨f, f'⟩
          · exact absurd f e
          · exact Or.inl ⟨e', f'⟩
      · rcases e23 with ⟨f, f'⟩ | ⟨f, f'⟩ | ⟨f, ff, f'⟩
        · rcases g3 e with ⟨p, p'⟩ | ⟨p, p'⟩ | ⟨p, pp, p'⟩
          · rw [f', p']
          · exact absurd (f.symm.trans p) (by decide)
          · exact absurd f p
        · rcases g3 e with ⟨p, p'⟩ | ⟨p, p'⟩ | ⟨p, pp, p'⟩
          · exact absurd (p.symm.trans f) (by decide)
          · rw [f', p']
          · exact absurd f pp
        · rcases g3 e with ⟨p, p'⟩ | ⟨p, p'⟩ | ⟨p, pp, p'⟩
          · exact absurd p f
          · exact absurd p ff
          · rw [f', p']
    by_cases e : s = 0
    · exact br_t e k
    · exact br_f e (br_t (hs.resolve_left e) k)
  · have k : wL_lawOf_277 post mc ms x1 a x5 x6 w x8 x9 x10 x11 x12 x13 x14 x16 w 0 kc ks := by
      obtain ⟨g1, g2, g3⟩ := G.1 hs
      subst g1 g2 g3
      exact mt_277 hn hq (fun x19 e19 => mt_320 h5 h6 (fun x23 e23 z => mt_385b H))
    exact br_f (fun e => hs (Or.inl e)) (br_f (fun e => hs (Or.inr e)) k)
theorem mt_172 {post : Int32 → St0 → Prop} {mc ms kc ks : Nat} {x1 x2 x3 x5 x6 x7 x8 x9 x10 x11 x12 x13 b : Int32} (hA : (0 ≤ b.toInt ∧ b.toInt ≤ 3) → wL_lawOf_190 post mc ms x1 x2 x3 x5 x6 x7 x8 x9 x10 x11 x12 x13 b 1 kc ks)
    (hN : ¬ (0 ≤ b.toInt ∧ b.toInt ≤ 3) → wL_lawOf_190 post mc ms x1 x2 x3 x5 x6 x7 x8 x9 x10 x11 x12 x13 b 0 kc ks) : wL_lawOf_172 post mc ms x1 x2 x3 x5 x6 x7 x8 x9 x10 x11 x12 x13 b kc ks :=
  mt_bl 0 (fun z => hN (by omega)) (fun z => mt_bge 4 (fun y => hN (by omega)) (fun y => hA (by omega)))
/-- the law behind its calls -/
def mt_St (post : Int32 → St0 → Prop) (mc ms : Nat) (x0 x1 x2 x3 x5 x6 x7 x8 x9 x10 : Int32) (kc ks : Nat) : Prop :=
  ((x0 < 0 → (wL_lawOf_68 post mc ms x0 x1 x2 x3 x5 x6 x7 x8 x9 x10 kc ks)) ∧ (¬ x0 < 0 → (((x0 ≤ 3 → (wL_lawOf_92 post mc ms x0 x1 x2 x3 x5 x6 x7 x8 x9 x10 kc ks)) ∧ (¬ x0 ≤ 3 → (wL_lawOf_68 post mc ms x0 x1 x2 x3 x5 x6 x7 x8 x9 x10 kc ks))))))
theorem mt_first {post : Int32 → St0 → Prop} {mc ms kc ks : Nat} {x0 x1 x2 x3 x5 x6 x7 x8 x9 x10 : Int32} (hT : mt_V x0 → wL_lawOf_97 post mc ms x0 x1 x2 x3 x5 x6 x7 x8 x9 x10 1 kc ks) (hF : ¬ mt_V x0 → wL_lawOf_97 post mc ms x0 x1 x2 x3 x5 x6 x7 x8 x9 x10 0 kc ks) :
    mt_St post mc ms x0 x1 x2 x3 x5 x6 x7 x8 x9 x10 kc ks := by
  have k : ¬ (0 ≤ x0.toInt ∧ x0.toInt ≤ 3) → wL_lawOf_68 post mc ms x0 x1 x2 x3 x5 x6 x7 x8 x9 x10 kc ks := by
    intro h
    have k' : ¬ (10 ≤ x0.toInt ∧ x0.toInt ≤ 14) → wL_lawOf_80 post mc ms x0 x1 x2 x3 x5 x6 x7 x8 x9 x10 kc ks := fun h' =>
      mt_bl 20 (fun z => hF (by unfold mt_V; omega)) (fun z => mt_bg 22 (fun y => hF (by unfold mt_V; omega)) (fun y => hT (by unfold mt_V; omega)))
    exact mt_bl 10 (fun z => k' (by omega)) (fun z => mt_ble 14 (fun y => hT (by unfold mt_V; omega)) (fun y => k' (by omega)))
  exact mt_bl 0 (fun z => k (by omega)) (fun z => mt_ble 3 (fun y => hT (by unfold mt_V; omega)) (fun y => k (by omega)))
theorem mt_second {post : Int32 → St0 → Prop} {mc ms kc ks : Nat} {x0 x1 x2 x3 x5 x6 x7 x8 x9 x10 x11 : Int32} (hT : mt_V x1 → wL_lawOf_137 post mc ms x0 x1 x2 x3 x5 x6 x7 x8 x9 x10 x11 1 kc ks) (hF : ¬ mt_V x1 → wL_lawOf_137 post mc ms x0 x1 x2 x3 x5 x6 x7 x8 x9 x10 x11 0 kc ks) :
    wL_lawOf_97 post mc ms x0 x1 x2 x3 x5 x6 x7 x8 x9 x10 x11 kc ks := by
  have k : ¬ (0 ≤ x1.toInt ∧ x1.toInt ≤ 3) → wL_lawOf_108 post mc ms x0 x1 x2 x3 x5 x6 x7 x8 x9 x10 x11 kc ks := by
    intro h
    have k' : ¬ (10 ≤ x1.toInt ∧ x1.toInt ≤ 14) → wL_lawOf_120 post mc ms x0 x1 x2 x3 x5 x6 x7 x8 x9 x10 x11 kc ks := fun h' =>
      mt_bl 20 (fun z => hF (by unfold mt_V; omega)) (fun z => mt_bg 22 (fun y => hF (by unfold mt_V; omega)) (fun y => hT (by unfold mt_V; omega)))
    exact mt_bl 10 (fun z => k' (by omega)) (fun z => mt_ble 14 (fun y => hT (by unfold mt_V; omega)) (fun y => k' (by omega)))
  exact mt_bl 0 (fun z => k (by omega)) (fun z => mt_ble 3 (fun y => hT (by unfold mt_V; omega)) (fun y => k (by omega)))
/-- neither is a token -/
theorem mt_FF {post : Int32 → St0 → Prop} {mc ms kc ks : Nat} {t u s a x8 x9 x10 : Int32} (ht : ¬ mt_V t) (hu : ¬ mt_V u) (G : mt_G s a (-4) 0 (4 - u - 0) (4 - u - 1) x8 x9 x10) (H : post 1 ()) : mt_St post mc ms t u s a (-1) (-1) (-4) x8 x9 x10 kc ks := by
  refine mt_first (fun v => absurd v ht) (fun _ => mt_second (fun v => absurd v hu) (fun _ => ?_))
  refine br_t rfl (br_t rfl (nm_r (e' := 0) (by decide) (br_t rfl ?_)))
  have k : wL_lawOf_261 post mc ms u s a (-1) (-1) (-4) x8 x9 x10 0 0 0 u 0 (-4) kc ks := mt_261 (Or.inl ⟨rfl, rfl⟩) (Or.inl ⟨rfl, rfl⟩) (Or.inl ⟨rfl, rfl⟩) (Or.inl ⟨rfl, rfl⟩) G H
  exact mt_172 (fun _ => br_f (by decide) (br_t rfl k)) (fun _ => br_f (by decide) (br_t rfl k))
/-- one token: an atom -/
theorem mt_TFa {post : Int32 → St0 → Prop} {mc ms kc ks : Nat} {t u s a x8 x9 x10 : Int32} (ht : mt_V t) (hu : ¬ mt_V u) (h3 : 0 ≤ t.toInt ∧ t.toInt ≤ 3) (G : mt_G s a (-4) 1 (4 - t - 0) (4 - u - 1) x8 x9 x10) (H : post 1 ()) : mt_St post mc ms t u s a 1 (-1) (-4) x8 x9 x10 kc ks := by
  refine mt_first (fun _ => mt_second (fun v => absurd v hu) (fun _ => ?_)) (fun v => absurd ht v)
  refine br_f (by decide) (br_t rfl (nm_r (e' := 1) (by decide) (br_f (by decide) ?_)))
  have k : wL_lawOf_261 post mc ms u s a 1 (-1) (-4) x8 x9 x10 1 0 1 t 0 (-4) kc ks := mt_261 (Or.inr ⟨by decide, rfl⟩) (Or.inl ⟨rfl, rfl⟩) (Or.inl ⟨rfl, rfl⟩) (Or.inl ⟨rfl, rfl⟩) G H
  exact mt_172 (fun _ => br_f (by decide) (br_f (by decide) (br_f (by decide) (br_t rfl k)))) (fun z => absurd h3 z)
/-- one token: a sign -/
theorem mt_TFs {post : Int32 → St0 → Prop} {mc ms kc ks : Nat} {t u s a x8 x9 x10 : Int32} (ht : mt_V t) (hu : ¬ mt_V u) (h3 : 3 < t.toInt) (G : mt_G s a 0 0 (4 - t - 0) (4 - u - 1) x8 x9 x10) (H : post 1 ()) : mt_St post mc ms t u s a 1 (-1) 0 x8 x9 x10 kc ks := by
  refine mt_first (fun _ => mt_second (fun v => absurd v hu) (fun _ => ?_)) (fun v => absurd ht v)
  refine br_f (by decide) (br_t rfl (nm_r (e' := 1) (by decide) (br_f (by decide) ?_)))
  have k : wL_lawOf_261 post mc ms u s a 1 (-1) 0 x8 x9 x10 1 0 1 t 0 0 kc ks := mt_261 (Or.inr ⟨by decide, rfl⟩) (Or.inl ⟨rfl, rfl⟩) (Or.inr ⟨by decide, rfl⟩) (Or.inl ⟨rfl, rfl⟩) G H
  exact mt_172 (fun z => absurd z (by omega)) (fun _ => br_f (by decide) (br_f (by decide) (br_t rfl k)))
theorem mt_FTa {post : Int32 → St0 → Prop} {mc ms kc ks : Nat} {t u s a x8 x9 x10 : Int32} (ht : ¬ mt_V t) (hu : mt_V u) (h3 : 0 ≤ u.toInt ∧ u.toInt ≤ 3) (G : mt_G s a (-4) 1 (4 - u - 0) (4 - u - 1) x8 x9 x10) (H : post 1 ()) : mt_St post mc ms t u s a (-1) 1 (-4) x8 x9 x10 kc ks := by
  refine mt_first (fun v => absurd v ht) (fun _ => mt_second (fun _ => ?_) (fun v => absurd hu v))
  refine br_t rfl (br_f (by decide) (nm_r (e' := 1) (by decide) (br_t rfl ?_)))
  have k : wL_lawOf_261 post mc ms u s a (-1) 1 (-4) x8 x9 x10 0 1 1 u 0 (-4) kc ks := mt_261 (Or.inl ⟨rfl, rfl⟩) (Or.inr ⟨by decide, rfl⟩) (Or.inl ⟨rfl, rfl⟩) (Or.inl ⟨rfl, rfl⟩) G H
  exact mt_172 (fun _ => br_f (by decide) (br_f (by decide) (br_f (by decide) (br_t rfl k)))) (fun z => absurd h3 z)
theorem mt_FTs {post : Int32 → St0 → Prop} {mc ms kc ks : Nat} {t u s a x8 x9 x10 : Int32} (ht : ¬ mt_V t) (hu : mt_V u) (h3 : 3 < u.toInt) (G : mt_G s a 0 0 (4 - u - 0) (4 - u - 1) x8 x9 x10) (H : post 1 ()) : mt_St post mc ms t u s a (-1) 1 0 x8 x9 x10 kc ks := by
  refine mt_first (fun v => absurd v ht) (fun _ => mt_second (fun _ => ?_) (fun v => absurd hu v))
  refine br_t rfl (br_f (by decide) (nm_r (e' := 1) (by decide) (br_t rfl ?_)))
  have k : wL_lawOf_261 post mc ms u s a (-1) 1 0 x8 x9 x10 0 1 1 u 0 0 kc ks := mt_261 (Or.inl ⟨rfl, rfl⟩) (Or.inr ⟨by decide, rfl⟩) (Or.inr ⟨by decide, rfl⟩) (Or.inl ⟨rfl, rfl⟩) G H
  exact mt_172 (fun z => absurd z (by omega)) (fun _ => br_f (by decide) (br_f (by decide) (br_t rfl k)))
/-- two tokens: a sign first -/
theorem mt_TTs {post : Int32 → St0 → Prop} {mc ms kc ks : Nat} {t u s a x8 x9 x10 : Int32} (ht : mt_V t) (hu : mt_V u) (h3 : 3 < t.toInt) (G : ∀ X Y, mt_G s a 0 0 X Y x8 x9 x10) (H : post 1 ()) : mt_St post mc ms t u s a 1 2 0 x8 x9 x10 kc ks := by
  refine mt_first (fun _ => mt_second (fun _ => ?_) (fun v => absurd hu v)) (fun v => absurd ht v)
  refine br_f (by decide) (br_f (by decide) (nm_r (e' := 2) (by decide) (br_f (by decide) ?_)))
  have k0 : wL_lawOf_261 post mc ms u s a 1 2 0 x8 x9 x10 1 1 2 t 0 0 kc ks := mt_261 (Or.inr ⟨by decide, rfl⟩) (Or.inr ⟨by decide, rfl⟩) (Or.inr ⟨by decide, rfl⟩) (Or.inl ⟨rfl, rfl⟩) (G _ _) H
  have k1 : wL_lawOf_261 post mc ms u s a 1 2 0 x8 x9 x10 1 1 2 t 1 0 kc ks := mt_261 (Or.inr ⟨by decide, rfl⟩) (Or.inr ⟨by decide, rfl⟩) (Or.inr ⟨by decide, rfl⟩) (Or.inr ⟨by decide, rfl⟩) (G _ _) H
  exact mt_172 (fun z => absurd z (by omega)) (fun _ => br_t rfl (br_c (fun _ => br_f (by decide) (br_t rfl k0)) (fun _ => br_f (by decide) (br_t rfl k1))))
/-- two atoms -/
theorem mt_TTa {post : Int32 → St0 → Prop} {mc ms kc ks : Nat} {t u s a x8 x9 x10 : Int32} (ht : mt_V t) (hu : mt_V u) (h3 : 0 ≤ t.toInt ∧ t.toInt ≤ 3) (h3' : 0 ≤ u.toInt ∧ u.toInt ≤ 3) (G : mt_G s a (-4) 2 (4 - t - 1) (4 - u - 1) x8 x9 x10) (H : post 1 ()) : mt_St post mc ms t u s a 1 2 (-4) x8 x9 x10 kc ks := by
  refine mt_first (fun _ => mt_second (fun _ => ?_) (fun v => absurd hu v)) (fun v => absurd ht v)
  refine br_f (by decide) (br_f (by decide) (nm_r (e' := 2) (by decide) (br_f (by decide) ?_)))
  have k : wL_lawOf_261 post mc ms u s a 1 2 (-4) x8 x9 x10 1 1 2 t 1 (-4) kc ks := mt_261 (Or.inr ⟨by decide, rfl⟩) (Or.inr ⟨by decide, rfl⟩) (Or.inl ⟨rfl, rfl⟩) (Or.inr ⟨by decide, rfl⟩) G H
  exact mt_172 (fun _ => br_t rfl (mt_bge 4 (fun z => absurd z (by omega)) (fun _ => br_f (by decide) (br_f (by decide) (br_f (by decide) (br_f (by decide) k)))))) (fun z => absurd h3 z)
/-- an atom and a closing sign -/
theorem mt_TTc {post : Int32 → St0 → Prop} {mc ms kc ks : Nat} {t u s a x8 x9 x10 : Int32} (ht : mt_V t) (hu : u = 11) (h3 : 0 ≤ t.toInt ∧ t.toInt ≤ 3) (G : ∀ X Y, mt_G s a 1 0 X Y x8 x9 x10) (H : post 1 ()) : mt_St post mc ms t u s a 1 2 1 x8 x9 x10 kc ks := by
  subst hu
  refine mt_first (fun _ => mt_second (fun _ => ?_) (fun v => absurd (show mt_V 11 from Or.inr (Or.inl (by decide))) v)) (fun v => absurd ht v)
  refine br_f (by decide) (br_f (by decide) (nm_r (e' := 2) (by decide) (br_f (by decide) ?_)))
  have k : wL_lawOf_261 post mc ms 11 s a 1 2 1 x8 x9 x10 1 1 2 t 0 1 kc ks := mt_261 (Or.inr ⟨by decide, rfl⟩) (Or.inr ⟨by decide, rfl⟩) (Or.inr ⟨by decide, rfl⟩) (Or.inl ⟨rfl, rfl⟩) (G _ _) H
  exact mt_172 (fun _ => br_t rfl (br_t (by decide) (br_f (by decide) (br_f (by decide) (br_f (by decide) (br_t rfl (br_t rfl k))))))) (fun z => absurd h3 z)
/-- an atom and another sign -/
theorem mt_TTx {post : Int32 → St0 → Prop} {mc ms kc ks : Nat} {t u s a x8 x9 x10 : Int32} (ht : mt_V t) (hu : mt_V u) (h3 : 0 ≤ t.toInt ∧ t.toInt ≤ 3) (h3' : 3 < u.toInt) (hn : u.toInt ≠ 11) (G : ∀ X Y, mt_G s a 2 0 X Y x8 x9 x10) (H : post 1 ()) : mt_St post mc ms t u s a 1 2 2 x8 x9 x10 kc ks := by
  refine mt_first (fun _ => mt_second (fun _ => ?_) (fun v => absurd hu v)) (fun v => absurd ht v)
  refine br_f (by decide) (br_f (by decide) (nm_r (e' := 2) (by decide) (br_f (by decide) ?_)))
  have k : wL_lawOf_261 post mc ms u s a 1 2 2 x8 x9 x10 1 1 2 t 0 2 kc ks := mt_261 (Or.inr ⟨by decide, rfl⟩) (Or.inr ⟨by decide, rfl⟩) (Or.inr ⟨by decide, rfl⟩) (Or.inl ⟨rfl, rfl⟩) (G _ _) H
  exact mt_172 (fun _ => br_t rfl (mt_bge 4 (fun _ => br_f (by decide) (br_f (by decide) (br_f (by decide) (br_t rfl (mt_beq 11 (fun z => absurd z hn) (fun _ => k)))))) (fun z => absurd z (by omega)))) (fun z => absurd h3 z)
end
section
theorem mt_Gb {s a w n X Y : Int32} (b : ¬ (s = 0 ∨ s = 1)) : mt_G s a w n X Y (-1) (-1) (-1) := ⟨fun _ => ⟨rfl, rfl, rfl⟩, fun g => absurd g b⟩
theorem mt_lez {a : Int32} (k : Int32) (n : Int) (h : ¬ k ≤ a) (hk : k.toInt = n := by decide) : a.toInt < n := by
  rw [Int32.le_iff_toInt_le, hk] at h
  omega
theorem mt_ltz {a : Int32} (k : Int32) (n : Int) (h : ¬ a < k) (hk : k.toInt = n := by decide) : n ≤ a.toInt := by
  rw [Int32.lt_iff_toInt_lt, hk] at h
  omega
theorem mt_or {a : Int32} (k : Int32) (n : Int) (h : a < 0 ∨ k ≤ a) (hk : k.toInt = n := by decide) : ¬ (0 ≤ a.toInt ∧ a.toInt < n) := by
  rw [Int32.le_iff_toInt_le, Int32.lt_iff_toInt_lt, hk, show (0 : Int32).toInt = 0 by decide] at h
  omega
theorem mt_Gw {s a w X Y x9 : Int32} (hw : ¬ w = -4) (g : s = 0 ∨ s = 1) (h9 : a = -1 → x9 = 0) (h9' : ¬ a = -1 → x9 = -4) : mt_G s a w 0 X Y (-3) x9 0 :=
  ⟨fun b => absurd g b, fun _ => ⟨Or.inr ⟨hw, rfl⟩, Or.inr ⟨by decide, rfl⟩, fun e => Or.inl ⟨rfl, h9 e⟩, fun e _ => h9' e, fun h e => absurd (show (0 : Int32) ≤ a by rw [e]; decide) h, fun _ h h' _ => absurd (mt_ltz 0 0 h) (by have := mt_lez 0 0 h'; omega)⟩⟩
theorem mt_G0 {s a X Y x9 : Int32} (g : s = 0 ∨ s = 1) (h9 : a = -1 → x9 = 0) (h9' : ¬ a = -1 → x9 = -4) : mt_G s a (-4) 0 X Y 0 x9 0 :=
  ⟨fun b => absurd g b, fun _ => ⟨Or.inl ⟨rfl, rfl⟩, Or.inr ⟨by decide, rfl⟩, fun e => Or.inl ⟨rfl, h9 e⟩, fun e _ => h9' e, fun h e => absurd (show (0 : Int32) ≤ a by rw [e]; decide) h, fun _ h h' _ => absurd (mt_ltz 0 0 h) (by have := mt_lez 0 0 h'; omega)⟩⟩
theorem mt_G1 {s a X Y x9 : Int32} (g : s = 0 ∨ s = 1) (h9 : a = -1 → x9 = X) (h0 : a = 0 → x9 = X) (h9' : ¬ a = -1 → ¬ (0 ≤ a.toInt ∧ a.toInt < 1) → x9 = -4) : mt_G s a (-4) 1 X Y 1 x9 0 :=
  ⟨fun b => absurd g b, fun _ => ⟨Or.inl ⟨rfl, rfl⟩, Or.inr ⟨by decide, rfl⟩, fun e => Or.inr (Or.inl ⟨rfl, h9 e⟩), fun e h => h9' e (mt_or 1 1 h), fun _ e => h0 e, fun _ h h' e => absurd (mt_is (t := a) 0 0 (by have := mt_lez 1 1 h'; have := mt_ltz 0 0 h; omega)) e⟩⟩
theorem mt_G2 {s a X Y x9 : Int32} (g : s = 0 ∨ s = 1) (h9 : a = -1 → x9 = X + Y) (h0 : a = 0 → x9 = X) (h1 : a = 1 → x9 = Y) (h9' : ¬ a = -1 → ¬ (0 ≤ a.toInt ∧ a.toInt < 2) → x9 = -4) : mt_G s a (-4) 2 X Y 2 x9 1 :=
  ⟨fun b => absurd g b, fun _ => ⟨Or.inl ⟨rfl, rfl⟩, Or.inl ⟨rfl, rfl⟩, fun e => Or.inr (Or.inr ⟨by decide, by decide, h9 e⟩), fun e h => h9' e (mt_or 2 2 h), fun _ e => h0 e, fun _ h h' e => h1 (mt_is (t := a) 1 1 (by have := mt_lez 2 2 h'; have := mt_ltz 0 0 h; have : a.toInt ≠ 0 := fun z => e (mt_is 0 0 z); omega))⟩⟩
/-! read, hydrogens, bond, one behind the other -/
theorem mt_oW {P : Int32 → Int32 → Int32 → Prop} {Q : Int32 → St2 → Prop} {co wp ra la sa pl od : Int32} {a1 a2 a3 a4 a5 a6 a7 a8 a9 a10 a11 a12 a13 a14 a15 a16 a17 a18 a19 a20 a21 a22 a23 a24 : Nat → Int32} {s a : Int32} (hQ : ∀ (r : Int32) (a8 a9 a10 : Nat → Int32), wpX_hydrogens (fun h => wpX_bond (fun b => P r h b) (co, 1, wp, ra, la, sa, pl, od, a1, a2, a3, a4, a5, a6, a7, a8, a9, a10, a11, a12, a13, a14, a15, a16, a17, a18, a19, a20, a21, a22, a23, a24) s 0 1) (co, 1, wp, ra, la, sa, pl, od, a1, a2, a3, a4, a5, a6, a7, a8, a9, a10, a11, a12, a13, a14, a15, a16, a17, a18, a19, a20, a21, a22, a23, a24) s a → Q r (co, 1, wp, ra, la, sa, pl, od, a1, a2, a3, a4, a5, a6, a7, a8, a9, a10, a11, a12, a13, a14, a15, a16, a17, a18, a19, a20, a21, a22, a23, a24))
    (hw : ¬ wp = (-4)) (h8 : a8 s.toNatClampNeg = 0) (K : ∀ x8 x9 x10, (∀ X Y, mt_G s a wp 0 X Y x8 x9 x10) → P x8 x9 x10) : wpX_read Q (co, 1, wp, ra, la, sa, pl, od, a1, a2, a3, a4, a5, a6, a7, a8, a9, a10, a11, a12, a13, a14, a15, a16, a17, a18, a19, a20, a21, a22, a23, a24) s :=
  mt_readW hw (fun g => hQ _ _ _ _ (mt_hyd0 g h8 (fun e => mt_bond0 g h8 (K _ _ _ (fun X Y => mt_Gw hw g (fun _ => rfl) (fun e' => absurd e e')))) (fun e => mt_bond0 g h8 (K _ _ _ (fun X Y => mt_Gw hw g (fun e' => absurd e' e) (fun _ => rfl))))))
    (fun b => hQ _ _ _ _ (mt_hydB b (mt_bondB b (K _ _ _ (fun X Y => mt_Gb b)))))
theorem mt_o0 {P : Int32 → Int32 → Int32 → Prop} {Q : Int32 → St2 → Prop} {co la sa pl od : Int32} {a1 a2 a3 a4 a5 a6 a7 a8 a9 a10 a11 a12 a13 a14 a15 a16 a17 a18 a19 a20 a21 a22 a23 a24 : Nat → Int32} {s a : Int32} (hQ : ∀ (r : Int32) (a8 a9 a10 : Nat → Int32), wpX_hydrogens (fun h => wpX_bond (fun b => P r h b) (co, 1, (-4), 0, la, sa, pl, od, a1, a2, a3, a4, a5, a6, a7, a8, a9, a10, a11, a12, a13, a14, a15, a16, a17, a18, a19, a20, a21, a22, a23, a24) s 0 1) (co, 1, (-4), 0, la, sa, pl, od, a1, a2, a3, a4, a5, a6, a7, a8, a9, a10, a11, a12, a13, a14, a15, a16, a17, a18, a19, a20, a21, a22, a23, a24) s a → Q r (co, 1, (-4), 0, la, sa, pl, od, a1, a2, a3, a4, a5, a6, a7, a8, a9, a10, a11, a12, a13, a14, a15, a16, a17, a18, a19, a20, a21, a22, a23, a24))
    (K : ∀ x8 x9 x10, (∀ X Y, mt_G s a (-4) 0 X Y x8 x9 x10) → P x8 x9 x10) : wpX_read Q (co, 1, (-4), 0, la, sa, pl, od, a1, a2, a3, a4, a5, a6, a7, a8, a9, a10, a11, a12, a13, a14, a15, a16, a17, a18, a19, a20, a21, a22, a23, a24) s :=
  mt_read0 (fun g _ h8 => hQ _ _ _ _ (mt_hyd0 g h8 (fun e => mt_bond0 g h8 (K _ _ _ (fun X Y => mt_G0 g (fun _ => rfl) (fun e' => absurd e e')))) (fun e => mt_bond0 g h8 (K _ _ _ (fun X Y => mt_G0 g (fun e' => absurd e' e) (fun _ => rfl))))))
    (fun b => hQ _ _ _ _ (mt_hydB b (mt_bondB b (K _ _ _ (fun X Y => mt_Gb b)))))
theorem mt_o1 {P : Int32 → Int32 → Int32 → Prop} {Q : Int32 → St2 → Prop} {co la sa pl od : Int32} {a1 a2 a3 a4 a5 a6 a7 a8 a9 a10 a11 a12 a13 a14 a15 a16 a17 a18 a19 a20 a21 a22 a23 a24 : Nat → Int32} {s a t : Int32} (ht : a2 0 = t) (hQ : ∀ (r : Int32) (a8 a9 a10 : Nat → Int32), wpX_hydrogens (fun h => wpX_bond (fun b => P r h b) (co, 1, (-4), 1, la, sa, pl, od, a1, a2, a3, a4, a5, a6, a7, a8, a9, a10, a11, a12, a13, a14, a15, a16, a17, a18, a19, a20, a21, a22, a23, a24) s 0 1) (co, 1, (-4), 1, la, sa, pl, od, a1, a2, a3, a4, a5, a6, a7, a8, a9, a10, a11, a12, a13, a14, a15, a16, a17, a18, a19, a20, a21, a22, a23, a24) s a → Q r (co, 1, (-4), 1, la, sa, pl, od, a1, a2, a3, a4, a5, a6, a7, a8, a9, a10, a11, a12, a13, a14, a15, a16, a17, a18, a19, a20, a21, a22, a23, a24))
    (K : ∀ x8 x9 x10, (∀ Y, mt_G s a (-4) 1 (4 - t - 0) Y x8 x9 x10) → P x8 x9 x10) : wpX_read Q (co, 1, (-4), 1, la, sa, pl, od, a1, a2, a3, a4, a5, a6, a7, a8, a9, a10, a11, a12, a13, a14, a15, a16, a17, a18, a19, a20, a21, a22, a23, a24) s :=
  mt_read1 (fun g _ _ _ h8 h9 => hQ _ _ _ _ (mt_hyd1 g h8 (h9.trans ht)
      (fun e => mt_bond1 g h8 (K _ _ _ (fun Y => mt_G1 g (fun _ => (Int32.sub_zero _).symm) (fun _ => (Int32.sub_zero _).symm) (fun e' => absurd e e'))))
      (fun e => mt_bond1 g h8 (K _ _ _ (fun Y => mt_G1 g (fun _ => (Int32.sub_zero _).symm) (fun _ => (Int32.sub_zero _).symm) (fun _ h => absurd (by rw [e]; decide) h))))
      (fun e h => mt_bond1 g h8 (K _ _ _ (fun Y => mt_G1 g (fun e' => absurd e' e) (fun e' => absurd (by rw [e']; decide) h) (fun _ _ => rfl))))))
    (fun b => hQ _ _ _ _ (mt_hydB b (mt_bondB b (K _ _ _ (fun Y => mt_Gb b)))))
theorem mt_o2 {P : Int32 → Int32 → Int32 → Prop} {Q : Int32 → St2 → Prop} {co la sa pl od : Int32} {a1 a2 a3 a4 a5 a6 a7 a8 a9 a10 a11 a12 a13 a14 a15 a16 a17 a18 a19 a20 a21 a22 a23 a24 : Nat → Int32} {s a t u : Int32} (ht : a2 0 = t) (hu : a2 1 = u) (h1 : a3 1 = 1) (h7 : a3 7 = 1) (hQ : ∀ (r : Int32) (a8 a9 a10 : Nat → Int32), wpX_hydrogens (fun h => wpX_bond (fun b => P r h b) (co, 1, (-4), 2, la, sa, pl, od, a1, a2, a3, a4, a5, a6, a7, a8, a9, a10, a11, a12, a13, a14, a15, a16, a17, a18, a19, a20, a21, a22, a23, a24) s 0 1) (co, 1, (-4), 2, la, sa, pl, od, a1, a2, a3, a4, a5, a6, a7, a8, a9, a10, a11, a12, a13, a14, a15, a16, a17, a18, a19, a20, a21, a22, a23, a24) s a → Q r (co, 1, (-4), 2, la, sa, pl, od, a1, a2, a3, a4, a5, a6, a7, a8, a9, a10, a11, a12, a13, a14, a15, a16, a17, a18, a19, a20, a21, a22, a23, a24))
    (K : ∀ x8 x9 x10, mt_G s a (-4) 2 (4 - t - 1) (4 - u - 1) x8 x9 x10 → P x8 x9 x10) : wpX_read Q (co, 1, (-4), 2, la, sa, pl, od, a1, a2, a3, a4, a5, a6, a7, a8, a9, a10, a11, a12, a13, a14, a15, a16, a17, a18, a19, a20, a21, a22, a23, a24) s :=
  mt_read2 h1 h7 (fun g _ _ _ h8 h9 h9' h10 h10' => hQ _ _ _ _ (mt_hyd2 g h8 (h9.trans ht) (h9'.trans hu) h10 h10'
      (fun e => mt_bond2 g h8 h10 (K _ _ _ (mt_G2 g (fun _ => rfl) (fun e' => absurd (e.symm.trans e') (by decide)) (fun e' => absurd (e.symm.trans e') (by decide)) (fun e' => absurd e e'))))
      (fun e => mt_bond2 g h8 h10 (K _ _ _ (mt_G2 g (fun e' => absurd (e.symm.trans e') (by decide)) (fun _ => rfl) (fun e' => absurd (e.symm.trans e') (by decide)) (fun _ h => absurd (by rw [e]; decide) h))))
      (fun e => mt_bond2 g h8 h10 (K _ _ _ (mt_G2 g (fun e' => absurd (e.symm.trans e') (by decide)) (fun e' => absurd (e.symm.trans e') (by decide)) (fun _ => rfl) (fun _ h => absurd (by rw [e]; decide) h))))
      (fun e h => mt_bond2 g h8 h10 (K _ _ _ (mt_G2 g (fun e' => absurd e' e) (fun e' => absurd (by rw [e']; decide) h) (fun e' => absurd (by rw [e']; decide) h) (fun _ _ => rfl))))))
    (fun b => hQ _ _ _ _ (mt_hydB b (mt_bondB b (K _ _ _ (mt_Gb b)))))
/-! the law -/
theorem mt_lawOf (t u s a : Int32) : wpL_lawOf (fun r _ => r = 1) 25 1676 () t u s a := by
  refine ⟨by decide, by decide, 24, 1644, by decide, by decide, ?_⟩
  unfold wpX_init
  iterate 48 refine ⟨by decide, ?_⟩
  refine mt_token 0 (by decide) (fun ht => ?_) (fun ht => ?_)
  · refine mt_token 1 (by decide) (fun hu => ?_) (fun hu => ?_)
    · -- two tokens
      by_cases h3 : 3 < t.toInt
      · refine mt_atN (Or.inr rfl) h3 rfl (fun _ _ _ _ _ _ _ _ _ _ _ => ?_)
        exact mt_oW (P := fun x8 x9 x10 => mt_St (fun r _ => r = 1) 25 1676 t u s a 1 2 0 x8 x9 x10 _ _) (fun _ _ _ _ h => h) (by decide) rfl (fun _ _ _ G => mt_TTs ht hu h3 G rfl)
      · have h03 : 0 ≤ t.toInt ∧ t.toInt ≤ 3 := by unfold mt_V at ht; omega
        by_cases h3' : 3 < u.toInt
        · by_cases h11 : u.toInt = 11
          · have e11 : u = 11 := mt_is 11 11 h11
            refine mt_atAC h03 rfl e11 (fun _ _ _ _ _ _ _ _ _ _ _ => ?_)
            exact mt_oW (P := fun x8 x9 x10 => mt_St (fun r _ => r = 1) 25 1676 t u s a 1 2 1 x8 x9 x10 _ _) (fun _ _ _ _ h => h) (by decide) rfl (fun _ _ _ G => mt_TTc ht e11 h03 G rfl)
          · refine mt_atAX h03 hu h3' h11 rfl rfl (fun _ _ _ _ _ _ _ _ _ _ _ => ?_)
            exact mt_oW (P := fun x8 x9 x10 => mt_St (fun r _ => r = 1) 25 1676 t u s a 1 2 2 x8 x9 x10 _ _) (fun _ _ _ _ h => h) (by decide) rfl (fun _ _ _ G => mt_TTx ht hu h03 h3' h11 G rfl)
        · have h03' : 0 ≤ u.toInt ∧ u.toInt ≤ 3 := by unfold mt_V at hu; omega
          refine mt_atAA h03 h03' rfl rfl (fun _ _ _ _ _ _ _ e e' => ?_)
          exact mt_o2 (P := fun x8 x9 x10 => mt_St (fun r _ => r = 1) 25 1676 t u s a 1 2 (-4) x8 x9 x10 _ _) e e' rfl rfl (fun _ _ _ _ h => h) (fun _ _ _ G => mt_TTa ht hu h03 h03' G rfl)
    · -- the first alone
      by_cases h3 : 3 < t.toInt
      · refine mt_atN (Or.inl rfl) h3 rfl (fun _ _ _ _ _ _ _ _ _ _ _ => ?_)
        exact mt_oW (P := fun x8 x9 x10 => mt_St (fun r _ => r = 1) 25 1676 t u s a 1 (-1) 0 x8 x9 x10 _ _) (fun _ _ _ _ h => h) (by decide) rfl (fun _ _ _ G => mt_TFs ht hu h3 (G _ _) rfl)
      · have h03 : 0 ≤ t.toInt ∧ t.toInt ≤ 3 := by unfold mt_V at ht; omega
        refine mt_atA h03.2 rfl (fun _ _ _ _ _ _ _ _ e => ?_)
        exact mt_o1 (P := fun x8 x9 x10 => mt_St (fun r _ => r = 1) 25 1676 t u s a 1 (-1) (-4) x8 x9 x10 _ _) e (fun _ _ _ _ h => h) (fun _ _ _ G => mt_TFa ht hu h03 (G _) rfl)
  · refine mt_token 0 (by decide) (fun hu => ?_) (fun hu => ?_)
    · -- the second alone
      by_cases h3 : 3 < u.toInt
      · refine mt_atN (Or.inl rfl) h3 rfl (fun _ _ _ _ _ _ _ _ _ _ _ => ?_)
        exact mt_oW (P := fun x8 x9 x10 => mt_St (fun r _ => r = 1) 25 1676 t u s a (-1) 1 0 x8 x9 x10 _ _) (fun _ _ _ _ h => h) (by decide) rfl (fun _ _ _ G => mt_FTs ht hu h3 (G _ _) rfl)
      · have h03 : 0 ≤ u.toInt ∧ u.toInt ≤ 3 := by unfold mt_V at hu; omega
        refine mt_atA h03.2 rfl (fun _ _ _ _ _ _ _ _ e => ?_)
        exact mt_o1 (P := fun x8 x9 x10 => mt_St (fun r _ => r = 1) 25 1676 t u s a (-1) 1 (-4) x8 x9 x10 _ _) e (fun _ _ _ _ h => h) (fun _ _ _ G => mt_FTa ht hu h03 (G _) rfl)
    · -- none
      refine mt_atE (fun _ _ _ _ _ => ?_)
      exact mt_o0 (P := fun x8 x9 x10 => mt_St (fun r _ => r = 1) 25 1676 t u s a (-1) (-1) (-4) x8 x9 x10 _ _) (fun _ _ _ _ h => h) (fun _ _ _ G => mt_FF ht hu (G _ _) rfl)
theorem mt_cell {post : Int32 → Prop} {L : Nat} {xs : Nat → Int32} (k : Nat) (hL : L ≤ 4) (hk : k < 4) (H : ∀ r, post r) : wpL_cellAt post L xs () (nI k) :=
  pk_le L k (fun _ => H _) (fun z => ⟨pk_in k L z, H _⟩)
theorem i_vc (xs : Nat → Int32) (L : Nat) (hL : L ≤ 4) : wpL_law (fun r => r = 1) L xs := by
  unfold wpL_law
  refine mt_cell 0 hL (by omega) (fun t => ?_)
  refine mt_cell 1 hL (by omega) (fun u => ?_)
  refine mt_cell 2 hL (by omega) (fun s => ?_)
  refine mt_cell 3 hL (by omega) (fun a => ?_)
  exact ⟨25, 1676, by omega, by omega, mt_lawOf t u s a⟩
end
