section
/-- the first place of station s's vehicles in the row of givers -/
def fd_B (q : Nat → Nat) : Nat → Nat
  | 0 => 0
  | s + 1 => fd_B q s + q s
theorem fd_B_mono (q : Nat → Nat) (s : Nat) : ∀ d, fd_B q s ≤ fd_B q (s + d) := by
  intro d
  induction d with
  | zero => exact Nat.le_refl _
  | succ d ih => exact Nat.le_trans ih (Nat.le_add_right _ _)
theorem fd_B_le (q : Nat → Nat) {s t : Nat} (h : s ≤ t) : fd_B q s ≤ fd_B q t := by
  have e := fd_B_mono q s (t - s)
  rw [show s + (t - s) = t by omega] at e
  exact e
/-- the stocks of the four stations, as naturals of at most 3 -/
def fd_Q (q : Nat → Nat) (a5 : Nat → Int32) : Prop := ∀ s, s < 4 → q s ≤ 3 ∧ a5 s = nI (q s)
theorem fd_B_12 {q : Nat → Nat} {a5 : Nat → Int32} (h : fd_Q q a5) : ∀ s, s ≤ 4 → fd_B q s ≤ 3 * s := by
  intro s
  induction s with
  | zero => intro _; exact Nat.le_refl _
  | succ s ih =>
    intro hs
    have h1 := ih (by omega)
    have h2 := (h s (by omega)).1
    show fd_B q s + q s ≤ 3 * (s + 1)
    omega
/-- the first G givers: each of one station, free from time 0 on, in the stations' order -/
def fd_G (q : Nat → Nat) (G : Nat) (a10 a11 : Nat → Int32) : Prop := ∀ g, g < G → ∃ s, s < 4 ∧ fd_B q s ≤ g ∧ g < fd_B q (s + 1) ∧ a10 g = nI (2 ^ s) ∧ a11 g = nI 0
theorem fd_G_add {q : Nat → Nat} {s G : Nat} {a10 a11 : Nat → Int32} (hs : s < 4) (h1 : fd_B q s ≤ G) (h2 : G < fd_B q (s + 1)) (h : fd_G q G a10 a11) : fd_G q (G + 1) (upd a10 G (nI (2 ^ s))) (upd a11 G (nI 0)) := by
  intro g hg
  by_cases e : g = G
  · rw [e, pk_us, pk_us]
    exact ⟨s, hs, h1, h2, rfl, rfl⟩
  · rw [pk_un e, pk_un e]
    exact h g (by omega)
/-- who suits whom: taker t suits giver g just for B ≤ g < B + m -/
def fd_S (T G B m : Nat) (a8 a9 a10 a11 : Nat → Int32) : Prop := ∀ t g, t < T → g < G → ¬ a9 t < a11 g ∧ (a10 g &&& a8 t = 0 ↔ ¬ (B ≤ g ∧ g < B + m))
/-- T takers alike: station s at time x -/
def fd_K (T s x : Nat) (a8 a9 : Nat → Int32) : Prop := ∀ t, t < T → a8 t = nI (2 ^ s) ∧ a9 t = nI x
theorem fd_K_add {T s x : Nat} {a8 a9 : Nat → Int32} (h : fd_K T s x a8 a9) : fd_K (T + 1) s x (upd a8 T (nI (2 ^ s))) (upd a9 T (nI x)) := by
  intro t ht
  by_cases e : t = T
  · rw [e, pk_us, pk_us]
    exact ⟨rfl, rfl⟩
  · rw [pk_un e, pk_un e]
    exact h t (by omega)
theorem fd_and : ∀ s, s < 4 → ∀ t, t < 4 → (nI (2 ^ s) &&& nI (2 ^ t) = 0 ↔ s ≠ t) := by decide +kernel
theorem fd_b8 : ∀ n, n < 128 → (nI n).toInt8.toInt32 = nI n := by decide +kernel
theorem fd_shl : ∀ s, s < 4 → (1 : Int32) <<< (nI s &&& 31) = nI (2 ^ s) := by decide +kernel
theorem fd_pr : ∀ i, i < 8 → ((0 : Int32) >>> (nI i &&& 31)) &&& 1 = 0 := by decide +kernel
theorem fd_p2 : ∀ s, s < 4 → 2 ^ s < 128 := by decide
theorem fd_suit {q : Nat → Nat} {T s x : Nat} {a8 a9 a10 a11 : Nat → Int32} (hs : s < 4) (hx : x ≤ 8) (hG : fd_G q (fd_B q 4) a10 a11) (hK : fd_K T s x a8 a9) : fd_S T (fd_B q 4) (fd_B q s) (q s) a8 a9 a10 a11 := by
  intro t g ht hg
  obtain ⟨r, hr, h1, h2, h3, h4⟩ := hG g hg
  obtain ⟨k1, k2⟩ := hK t ht
  rw [h3, h4, k1, k2]
  refine ⟨nI_nlt (by omega) (by omega), (fd_and r hr s hs).trans ⟨fun n z => ?_, fun n e => ?_⟩⟩
  · have z2 : g < fd_B q (s + 1) := z.2
    rcases Nat.lt_or_gt_of_ne n with l | l
    · have := fd_B_le q (show r + 1 ≤ s by omega)
      omega
    · have := fd_B_le q (show s + 1 ≤ r by omega)
      omega
  · subst e
    exact n ⟨h1, h2⟩
/-- what clamp answers -/
def fd_cl (z : Int32) : Int32 := if 0 ≤ z then (if z ≤ 3 then z else 3) else 0
theorem fd_cl_n (z : Int32) : ∃ j : Nat, j ≤ 3 ∧ fd_cl z = nI j := by
  unfold fd_cl
  by_cases h : 0 ≤ z
  · rw [if_pos h]
    by_cases h3 : z ≤ 3
    · rw [if_pos h3]
      exact nI_of2 (M := 3) (n := 3) (by decide) (by
        intro l
        have h' := Int32.le_iff_toInt_le.mp h
        have l' := Int32.lt_iff_toInt_lt.mp l
        omega) h3
    · rw [if_neg h3]
      exact ⟨3, by omega, rfl⟩
  · rw [if_neg h]
    exact ⟨0, by omega, rfl⟩
end
section
section
variable {post : St2 → Prop} {fc fp ft fg fl fk : Int32} {a1 a2 a3 a4 a5 a6 a7 a8 a9 a10 a11 a12 a13 a14 a15 a16 a17 : Nat → Int32}
/-- askPlainly: it ends, and changes askPick and askBack alone -/
theorem fd_ask {c : Nat} (hc : c ≤ 8) (H : ∀ b6 b7 : Nat → Int32, post (nI c, fp, ft, fg, fl, fk, a1, a2, a3, a4, a5, b6, b7, a8, a9, a10, a11, a12, a13, a14, a15, a16, a17)) : wpX_askPlainly post (nI c, fp, ft, fg, fl, fk, a1, a2, a3, a4, a5, a6, a7, a8, a9, a10, a11, a12, a13, a14, a15, a16, a17) :=
  pk_loop (fun n i (s : (Nat → Int32) × (Nat → Int32)) => wX_askPlainly_2 post (nI c) fp ft fg fl fk n (nI i) a1 a2 a3 a4 a5 s.1 s.2 a8 a9 a10 a11 a12 a13 a14 a15 a16 a17) (fun _ _ => True) c 0 (a6, a7) (by omega) trivial
    (fun n s _ => pk_le c c (fun _ => H s.1 s.2) (fun z => absurd z (by omega)))
    (fun n i s hi _ hw => pk_le c i (fun z => absurd z (by omega)) (fun _ => ⟨pk_in i 8 (by omega), pk_in i 8 (by omega), nm_e ⟨pk_in i 8 (by omega), pk_in i 8 (by omega), nm_e (nm_r (nI_1 i) (hw (_, _) trivial))⟩⟩))
theorem fd_addG {G : Nat} {x y x' y' : Int32} (hG : G < 24) (hx : x.toInt8.toInt32 = x') (hy : y.toInt8.toInt32 = y') (H : post (fc, fp, ft, nI (G + 1), fl, fk, a1, a2, a3, a4, a5, a6, a7, a8, a9, upd a10 G x', upd a11 G y', a12, a13, a14, a15, a16, a17)) : wpX_addGiver post (fc, fp, ft, nI G, fl, fk, a1, a2, a3, a4, a5, a6, a7, a8, a9, a10, a11, a12, a13, a14, a15, a16, a17) x y :=
  pk_le 24 G (fun z => absurd z (by omega)) (fun _ => ⟨pk_in G 24 hG, nm_r (by rw [nI_clamp (by omega), hx]) ⟨pk_in G 24 hG, nm_r (by rw [nI_clamp (by omega), hy]) (nm_r (nI_1 G) H)⟩⟩)
theorem fd_addT {T : Nat} {x y x' y' : Int32} (hT : T < 24) (hx : x.toInt8.toInt32 = x') (hy : y.toInt8.toInt32 = y') (H : post (fc, fp, nI (T + 1), fg, fl, fk, a1, a2, a3, a4, a5, a6, a7, upd a8 T x', upd a9 T y', a10, a11, a12, a13, a14, a15, a16, a17)) : wpX_addTaker post (fc, fp, nI T, fg, fl, fk, a1, a2, a3, a4, a5, a6, a7, a8, a9, a10, a11, a12, a13, a14, a15, a16, a17) x y :=
  pk_le 24 T (fun z => absurd z (by omega)) (fun _ => ⟨pk_in T 24 hT, nm_r (by rw [nI_clamp (by omega), hx]) ⟨pk_in T 24 hT, nm_r (by rw [nI_clamp (by omega), hy]) (nm_r (nI_1 T) H)⟩⟩)
/-- gather's loop over the bookings: there are none -/
theorem fd_g51 {c : Nat} (hc : c ≤ 8) (H : post (nI c, 0, ft, fg, fl, fk, a1, a2, a3, a4, a5, a6, a7, a8, a9, a10, a11, a12, a13, a14, a15, a16, a17)) : ∃ n, wX_gather_51 post n 0 (nI c) 0 ft fg fl fk a1 a2 a3 a4 a5 a6 a7 a8 a9 a10 a11 a12 a13 a14 a15 a16 a17 :=
  pk_loop (σ := Unit) (fun n i _ => wX_gather_51 post n (nI i) (nI c) 0 ft fg fl fk a1 a2 a3 a4 a5 a6 a7 a8 a9 a10 a11 a12 a13 a14 a15 a16 a17) (fun _ _ => True) c 0 () (by omega) trivial
    (fun n _ _ => pk_le c c (fun _ => H) (fun z => absurd z (by omega)))
    (fun n i _ hi _ hw => pk_le c i (fun z => absurd z (by omega)) (fun _ => br_t (fd_pr i (by omega)) (nm_r (nI_1 i) (hw () trivial))))
/-- gather's loop over one station's stock -/
theorem fd_g19 {J : Int32 → Int32 → Int32 → Int32 → Int32 → Int32 → Int32 → (Nat → Int32) → (Nat → Int32) → (Nat → Int32) → (Nat → Int32) → (Nat → Int32) → (Nat → Int32) → (Nat → Int32) → (Nat → Int32) → (Nat → Int32) → (Nat → Int32) → (Nat → Int32) → (Nat → Int32) → (Nat → Int32) → (Nat → Int32) → (Nat → Int32) → (Nat → Int32) → (Nat → Int32) → Prop} {q : Nat → Nat} {i : Nat} (hq : fd_Q q a5) (hi : i < 4) (h : fd_G q (fd_B q i) a10 a11)
    (H : ∀ b10 b11 : Nat → Int32, fd_G q (fd_B q (i + 1)) b10 b11 → J (nI (i + 1)) fc fp ft (nI (fd_B q (i + 1))) fl fk a1 a2 a3 a4 a5 a6 a7 a8 a9 b10 b11 a12 a13 a14 a15 a16 a17) :
    ∃ n, wX_gather_19 post J (nI i) n 0 fc fp ft (nI (fd_B q i)) fl fk a1 a2 a3 a4 a5 a6 a7 a8 a9 a10 a11 a12 a13 a14 a15 a16 a17 := by
  have h5 : a5 (nI i).toNatClampNeg = nI (q i) := by rw [nI_clamp (by omega)]; exact (hq i hi).2
  have h3 := (hq i hi).1
  have hb := fd_B_12 hq i (by omega)
  refine pk_loop (fun n k (s : (Nat → Int32) × (Nat → Int32)) => wX_gather_19 post J (nI i) n (nI k) fc fp ft (nI (fd_B q i + k)) fl fk a1 a2 a3 a4 a5 a6 a7 a8 a9 s.1 s.2 a12 a13 a14 a15 a16 a17) (fun k s => fd_G q (fd_B q i + k) s.1 s.2) (q i) 0 (a10, a11) (by omega) h ?_ ?_
  · intro n s hs
    exact ⟨pk_in i 4 hi, pk_le (q i) (q i) (fun _ => nm_r (nI_1 i) (H s.1 s.2 hs)) (fun z => absurd z (by omega)) h5⟩
  · intro n k s hk hs hw
    refine ⟨pk_in i 4 hi, pk_le (q i) k (fun z => absurd z (by omega)) (fun _ => ?_) h5⟩
    have hg : fd_G q (fd_B q i + k + 1) (upd s.1 (fd_B q i + k) (nI (2 ^ i))) (upd s.2 (fd_B q i + k) (nI 0)) := fd_G_add hi (by omega) (show fd_B q i + k < fd_B q i + q i by omega) hs
    exact fd_addG (by omega) (by rw [fd_shl i hi]; exact fd_b8 _ (fd_p2 i hi)) (fd_b8 0 (by omega)) (nm_r (nI_1 k) (hw (_, _) hg))
/-- gather: no takers; the stocks as givers -/
theorem fd_gather {c : Nat} {q : Nat → Nat} (hc : c ≤ 8) (hq : fd_Q q a5) (H : ∀ b10 b11 : Nat → Int32, fd_G q (fd_B q 4) b10 b11 → post (nI c, 0, nI 0, nI (fd_B q 4), fl, fk, a1, a2, a3, a4, a5, a6, a7, a8, a9, b10, b11, a12, a13, a14, a15, a16, a17)) : wpX_gather post (nI c, 0, ft, fg, fl, fk, a1, a2, a3, a4, a5, a6, a7, a8, a9, a10, a11, a12, a13, a14, a15, a16, a17) :=
  pk_loop (fun n i (s : (Nat → Int32) × (Nat → Int32)) => wX_gather_12 post n (nI i) (nI c) 0 (nI 0) (nI (fd_B q i)) fl fk a1 a2 a3 a4 a5 a6 a7 a8 a9 s.1 s.2 a12 a13 a14 a15 a16 a17) (fun i s => fd_G q (fd_B q i) s.1 s.2) 4 0 (a10, a11) (by omega) (fun g hg => absurd hg (Nat.not_lt_zero g))
    (fun n s hs => pk_le 4 4 (fun _ => fd_g51 hc (H s.1 s.2 hs)) (fun z => absurd z (by omega)))
    (fun n i s hi hs hw => pk_le 4 i (fun z => absurd z (by omega)) (fun _ => fd_g19 hq hi hs (fun b10 b11 hb => hw (b10, b11) hb)))
end
end
section
section
variable {post : Int32 → St2 → Prop} {fc fp ft fg fl fk : Int32} {a1 a2 a3 a4 a5 a6 a7 a8 a9 a10 a11 a12 a13 a14 a15 a16 a17 : Nat → Int32} {T G B m : Nat}
theorem fd_suits {ps : Int32 → Prop} {t g : Nat} (hS : fd_S T G B m a8 a9 a10 a11) (hT : T ≤ 24) (hG : G ≤ 24) (ht : t < T) (hg : g < G) (H1 : B ≤ g ∧ g < B + m → ps 1) (H0 : ¬ (B ≤ g ∧ g < B + m) → ps 0) : wpX_suits ps (fc, fp, ft, fg, fl, fk, a1, a2, a3, a4, a5, a6, a7, a8, a9, a10, a11, a12, a13, a14, a15, a16, a17) (nI t) (nI g) := by
  obtain ⟨h1, h2⟩ := hS t g ht hg
  have e1 : (nI t).toNatClampNeg = t := nI_clamp (by omega)
  have e2 : (nI g).toNatClampNeg = g := nI_clamp (by omega)
  refine ⟨pk_in g 24 (by omega), pk_in t 24 (by omega), br_f (by rw [e1, e2]; exact h1) ⟨pk_in g 24 (by omega), pk_in t 24 (by omega), ?_⟩⟩
  rw [e1, e2]
  exact ek_if h2 H0 (fun n => H1 (Decidable.not_not.mp n))
/-- the first e places of the line are takers -/
def fd_L (T e : Nat) (a15 : Nat → Int32) : Prop := ∀ i, i < e → ∃ u, u < T ∧ a15 i = nI u
theorem fd_L_add {e u : Nat} (hu : u < T) (h : fd_L T e a15) : fd_L T (e + 1) (upd a15 e (nI u)) := by
  intro i hi
  by_cases e1 : i = e
  · rw [e1, pk_us]
    exact ⟨u, hu, rfl⟩
  · rw [pk_un e1]
    exact h i (by omega)
/-- one giver that is no free one: it may be marked, its taker may go into the line; the loop goes on -/
theorem fd_look1 {n t g e : Nat} (hS : fd_S T G B m a8 a9 a10 a11) (hT : T ≤ 24) (hG : G ≤ 24) (ht : t < T) (hg : g < G) (he : e ≤ 24) (hL : fd_L T e a15)
    (h12 : B ≤ g → g < B + m → ∃ u, u < T ∧ a12 g = nI u)
    (H : ∀ (e' : Nat) (b13 b15 : Nat → Int32), e' ≤ 24 → fd_L T e' b15 → (∀ j, j ≠ g → b13 j = a13 j) → wX_look_2 post (nI t) fc fp ft (nI G) fk n (nI (g + 1)) (nI e') a1 a2 a3 a4 a5 a6 a7 a8 a9 a10 a11 a12 b13 a14 b15 a16 a17) :
    wX_look_2 post (nI t) fc fp ft (nI G) fk (n + 1) (nI g) (nI e) a1 a2 a3 a4 a5 a6 a7 a8 a9 a10 a11 a12 a13 a14 a15 a16 a17 := by
  have e2 : (nI g).toNatClampNeg = g := nI_clamp (by omega)
  refine pk_le G g (fun z => absurd z (by omega)) (fun _ => ⟨pk_in g 24 (by omega), br_c (fun _ => nm_r (nI_1 g) (H e _ _ he hL (fun _ _ => rfl))) (fun _ => ?_)⟩)
  refine fd_suits hS hT hG ht hg (fun hi => ?_) (fun _ => br_t rfl (nm_r (nI_1 g) (H e _ _ he hL (fun _ _ => rfl))))
  obtain ⟨u, hu, h12⟩ := h12 hi.1 hi.2
  have h13 : ∀ x : Int32, ∀ j, j ≠ g → upd a13 g x j = a13 j := fun x j hj => pk_un hj
  refine br_f (by decide) ⟨pk_in g 24 (by omega), nm_e ⟨pk_in g 24 (by omega), ?_⟩⟩
  rw [e2]
  refine br_t (by rw [h12]; exact nI_pos' (by omega)) (pk_le 24 e (fun _ => nm_r (nI_1 g) (H e _ _ he hL (h13 _))) (fun z => ⟨pk_in g 24 (by omega), pk_in e 24 z, nm_r ?_ (nm_r (nI_1 e) (nm_r (nI_1 g) (H (e + 1) _ _ (by omega) (fd_L_add hu hL) (h13 _))))⟩))
  rw [h12, vp_nar_byte, fd_b8 u (by omega), nI_clamp (by omega)]
/-- look where every giver that suits is taken: -1 -/
theorem fd_lookN {t e : Nat} (hS : fd_S T G B m a8 a9 a10 a11) (hT : T ≤ 24) (hG : G ≤ 24) (ht : t < T) (he : e ≤ 24) (hL : fd_L T e a15)
    (h12 : ∀ g, B ≤ g → g < B + m → ∃ u, u < T ∧ a12 g = nI u)
    (H : ∀ (e' : Nat) (b13 b15 : Nat → Int32), e' ≤ 24 → fd_L T e' b15 → post (-1) (fc, fp, ft, nI G, nI e', fk, a1, a2, a3, a4, a5, a6, a7, a8, a9, a10, a11, a12, b13, a14, b15, a16, a17)) :
    wpX_look post (fc, fp, ft, nI G, nI e, fk, a1, a2, a3, a4, a5, a6, a7, a8, a9, a10, a11, a12, a13, a14, a15, a16, a17) (nI t) :=
  pk_loop (fun n i (s : Nat × (Nat → Int32) × (Nat → Int32)) => wX_look_2 post (nI t) fc fp ft (nI G) fk n (nI i) (nI s.1) a1 a2 a3 a4 a5 a6 a7 a8 a9 a10 a11 a12 s.2.1 a14 s.2.2 a16 a17) (fun _ s => s.1 ≤ 24 ∧ fd_L T s.1 s.2.2) G 0 (e, a13, a15) (by omega) ⟨he, hL⟩
    (fun n s hs => pk_le G G (fun _ => H s.1 s.2.1 s.2.2 hs.1 hs.2) (fun z => absurd z (by omega)))
    (fun n i s hi hs hw => fd_look1 hS hT hG ht hi hs.1 hs.2 (h12 i) (fun e' b13 b15 he' hL' _ => hw (e', b13, b15) ⟨he', hL'⟩))
/-- look where giver B + j is the first free one that suits: that one, marked -/
theorem fd_lookY {t e j : Nat} (hS : fd_S T G B m a8 a9 a10 a11) (hT : T ≤ 24) (hG : G ≤ 24) (hB : B + m ≤ G) (hj : j < m) (ht : t < T) (he : e ≤ 24) (hL : fd_L T e a15)
    (h12 : ∀ g, B ≤ g → g < B + j → ∃ u, u < T ∧ a12 g = nI u) (hf : a12 (B + j) = -1) (h13 : ∀ g, g < G → a13 g = -1)
    (H : ∀ (e' : Nat) (b13 b15 : Nat → Int32), b13 (B + j) = nI t → post (nI (B + j)) (fc, fp, ft, nI G, nI e', fk, a1, a2, a3, a4, a5, a6, a7, a8, a9, a10, a11, a12, b13, a14, b15, a16, a17)) :
    wpX_look post (fc, fp, ft, nI G, nI e, fk, a1, a2, a3, a4, a5, a6, a7, a8, a9, a10, a11, a12, a13, a14, a15, a16, a17) (nI t) := by
  refine pk_loop (fun n i (s : Nat × (Nat → Int32) × (Nat → Int32)) => wX_look_2 post (nI t) fc fp ft (nI G) fk n (nI i) (nI s.1) a1 a2 a3 a4 a5 a6 a7 a8 a9 a10 a11 a12 s.2.1 a14 s.2.2 a16 a17) (fun i s => s.1 ≤ 24 ∧ fd_L T s.1 s.2.2 ∧ ∀ g, i ≤ g → g < G → s.2.1 g = -1) (B + j) 0 (e, a13, a15) (by omega) ⟨he, hL, fun g _ hg => h13 g hg⟩ ?_ ?_
  · intro n s hs
    have e2 : (nI (B + j)).toNatClampNeg = B + j := nI_clamp (by omega)
    refine pk_le G (B + j) (fun z => absurd z (by omega)) (fun _ => ⟨pk_in (B + j) 24 (by omega), br_f ?_ ?_⟩)
    · rw [e2, hs.2.2 (B + j) (Nat.le_refl _) (by omega)]
      decide
    · refine fd_suits hS hT hG ht (show B + j < G by omega) (fun _ => ?_) (fun z => absurd ⟨by omega, by omega⟩ z)
      refine br_f (by decide) ⟨pk_in (B + j) 24 (by omega), nm_r (by rw [e2, fd_b8 t (by omega)]) ⟨pk_in (B + j) 24 (by omega), br_f ?_ (H s.1 _ s.2.2 pk_us)⟩⟩
      rw [e2, hf]
      decide
  · intro n i s hi hs hw
    exact fd_look1 hS hT hG ht (show i < G by omega) hs.1 hs.2.1 (fun h1 _ => h12 i h1 hi) (fun e' b13 b15 he' hL' h' => hw (e', b13, b15) ⟨he', hL', fun g h1 h2 => by
      show b13 g = -1
      rw [h' g (by omega)]
      exact hs.2.2 g (by omega) h2⟩)
end
end
section
theorem fd_fill {s : Nat → Int32} {i k : Nat} {v : Int32} (hk : k = i) (h : ∀ j, j < i → s j = v) : ∀ j, j < i + 1 → upd s k v j = v := by
  intro j hj
  rw [hk]
  by_cases e : j = i
  · rw [e, pk_us]
  · rw [pk_un e]
    exact h j (by omega)
section
variable {post : Int32 → St2 → Prop} {fc fp ft fg fl fk : Int32} {a1 a2 a3 a4 a5 a6 a7 a8 a9 a10 a11 a12 a13 a14 a15 a16 a17 : Nat → Int32} {T G B m : Nat}
/-- shift where the chain is one giver long -/
theorem fd_shift {ps : St2 → Prop} {f t : Nat} (hf : f < 24) (ht : t < 24) (h13 : a13 f = nI t) (h14 : a14 t = -1) (H : ps (fc, fp, ft, fg, fl, fk, a1, a2, a3, a4, a5, a6, a7, a8, a9, a10, a11, upd a12 f (nI t), a13, upd a14 t (nI f), a15, a16, a17)) : wpX_shift ps (fc, fp, ft, fg, fl, fk, a1, a2, a3, a4, a5, a6, a7, a8, a9, a10, a11, a12, a13, a14, a15, a16, a17) (nI f) := by
  have e1 : (nI t).toNatClampNeg = t := nI_clamp (by omega)
  have e2 : (nI f).toNatClampNeg = f := nI_clamp (by omega)
  refine ⟨2, br_f (by decide) (br_f (nI_pos (by omega)) ⟨pk_in f 24 hf, nm_r (e' := nI t) (by rw [e2, h13]) ⟨pk_in t 24 ht, nm_r (e' := (-1 : Int32)) (by rw [e1, h14]) ⟨pk_in f 24 hf, nm_r (e' := upd a12 f (nI t)) (by rw [e2, fd_b8 t (by omega)]) ⟨pk_in t 24 ht, nm_r (e' := upd a14 t (nI f)) (by rw [e1, fd_b8 f (by omega)]) (nm_e ?_)⟩⟩⟩⟩)⟩
  exact br_f (by decide) (br_t (by decide) H)
/-- serve up to its search: no giver is reached, the taker alone is in line -/
theorem fd_serve2 {t : Nat} (hG : G ≤ 24) (ht : t < 24) (H : ∀ b13 : Nat → Int32, (∀ g, g < G → b13 g = -1) → ∃ n, wX_serve_40 post n (-1) 0 fc fp ft (nI G) 1 fk a1 a2 a3 a4 a5 a6 a7 a8 a9 a10 a11 a12 b13 a14 (upd a15 0 (nI t)) a16 a17) : wpX_serve post (fc, fp, ft, nI G, fl, fk, a1, a2, a3, a4, a5, a6, a7, a8, a9, a10, a11, a12, a13, a14, a15, a16, a17) (nI t) :=
  pk_loop (fun n i (s : Nat → Int32) => wX_serve_2 post (nI t) fc fp ft (nI G) fl fk n (nI i) a1 a2 a3 a4 a5 a6 a7 a8 a9 a10 a11 a12 s a14 a15 a16 a17) (fun i s => ∀ g, g < i → s g = -1) G 0 a13 (by omega) (fun g hg => absurd hg (Nat.not_lt_zero g))
    (fun n s hs => pk_le G G (fun _ => nm_r (by rw [fd_b8 t (by omega)]) (H s hs)) (fun z => absurd z (by omega)))
    (fun n i s hi hs hw => pk_le G i (fun z => absurd z (by omega)) (fun _ => ⟨pk_in i 24 (by omega), nm_e (nm_r (nI_1 i) (hw _ (fd_fill (nI_clamp (by omega)) hs)))⟩))
/-- serve where every giver that suits is taken: false, the matching as it was -/
theorem fd_serveN {t : Nat} (hS : fd_S T G B m a8 a9 a10 a11) (hT : T ≤ 24) (hG : G ≤ 24) (ht : t < T)
    (h12 : ∀ g, B ≤ g → g < B + m → ∃ u, u < T ∧ a12 g = nI u)
    (H : ∀ (e' : Nat) (b13 b15 : Nat → Int32), post 0 (fc, fp, ft, nI G, nI e', fk, a1, a2, a3, a4, a5, a6, a7, a8, a9, a10, a11, a12, b13, a14, b15, a16, a17)) :
    wpX_serve post (fc, fp, ft, nI G, fl, fk, a1, a2, a3, a4, a5, a6, a7, a8, a9, a10, a11, a12, a13, a14, a15, a16, a17) (nI t) := by
  refine fd_serve2 hG (by omega) (fun b13 _ => ?_)
  have F : ∀ (e' : Nat) (b13 b15 : Nat → Int32), wX_serve_75 post (-1) fc fp ft (nI G) (nI e') fk a1 a2 a3 a4 a5 a6 a7 a8 a9 a10 a11 a12 b13 a14 b15 a16 a17 := fun e' b13 b15 => br_f (by decide) (H e' b13 b15)
  refine pk_loop (fun n i (s : Nat × (Nat → Int32) × (Nat → Int32)) => wX_serve_40 post n (-1) (nI i) fc fp ft (nI G) (nI s.1) fk a1 a2 a3 a4 a5 a6 a7 a8 a9 a10 a11 a12 s.2.1 a14 s.2.2 a16 a17) (fun _ s => s.1 ≤ 24 ∧ fd_L T s.1 s.2.2) 24 0 (1, b13, upd a15 0 (nI t)) (by omega) ⟨(show 1 ≤ 24 by decide), fd_L_add ht (fun i hi => absurd hi (Nat.not_lt_zero i))⟩ ?_ ?_
  · intro n s hs
    exact pk_le s.1 24 (fun _ => F _ _ _) (fun z => absurd hs.1 (by omega)) rfl rfl (by have := hs.1; omega)
  · intro n i s hi hs hw
    have h1 := hs.1
    refine pk_le s.1 i (fun _ => F _ _ _) (fun z => br_f (nI_ge (b := 24) hi (by decide)) (br_f (by decide) ⟨pk_in i 24 hi, ?_⟩))
    obtain ⟨u, hu, e⟩ := hs.2 i z
    rw [nI_clamp (show i < 2 ^ 31 by omega), e]
    exact fd_lookN hS hT hG hu hs.1 hs.2 h12 (fun e' c13 c15 he' hL' => nm_r (nI_1 i) (hw (e', c13, c15) ⟨he', hL'⟩))
/-- serve where giver B + j is the first free one that suits: true, the two are matched -/
theorem fd_serveY {t j : Nat} (hS : fd_S T G B m a8 a9 a10 a11) (hT : T ≤ 24) (hG : G ≤ 24) (hB : B + m ≤ G) (hj : j < m) (ht : t < T)
    (h12 : ∀ g, B ≤ g → g < B + j → ∃ u, u < T ∧ a12 g = nI u) (hf : a12 (B + j) = -1) (h14 : a14 t = -1)
    (H : ∀ (e' : Nat) (b13 b15 : Nat → Int32), post 1 (fc, fp, ft, nI G, nI e', fk, a1, a2, a3, a4, a5, a6, a7, a8, a9, a10, a11, upd a12 (B + j) (nI t), b13, upd a14 t (nI (B + j)), b15, a16, a17)) :
    wpX_serve post (fc, fp, ft, nI G, fl, fk, a1, a2, a3, a4, a5, a6, a7, a8, a9, a10, a11, a12, a13, a14, a15, a16, a17) (nI t) := by
  refine fd_serve2 hG (by omega) (fun b13 h13 => ⟨2, ?_⟩)
  refine pk_le 1 0 (fun z => absurd z (by omega)) (fun _ => br_f (by decide) (br_f (by decide) ⟨pk_in 0 24 (by omega), ?_⟩))
  rw [sb_cl0, pk_us]
  refine fd_lookY (e := 1) hS hT hG hB hj ht (by decide) (fd_L_add ht (fun i hi => absurd hi (Nat.not_lt_zero i))) h12 hf h13 (fun e' c13 c15 hc => ?_)
  have F : wX_serve_75 post (nI (B + j)) fc fp ft (nI G) (nI e') fk a1 a2 a3 a4 a5 a6 a7 a8 a9 a10 a11 a12 c13 a14 c15 a16 a17 := br_t (nI_pos' (by omega)) (fd_shift (by omega) (by omega) hc h14 (H e' c13 c15))
  exact fun x3 _ => br_c (fun _ => F) (fun _ => br_c (fun _ => F) (fun _ => br_t (nI_pos' (by omega)) F))
/-- the matching after the first i takers: B, B + 1 .. are taken in order, as far as they go -/
def fd_M (T B m i : Nat) (a12 a14 : Nat → Int32) : Prop := (∀ g, B ≤ g → g < B + m → g < B + i → ∃ u, u < T ∧ a12 g = nI u) ∧ (∀ g, B + i ≤ g → g < B + m → a12 g = -1) ∧ (∀ t, i ≤ t → t < T → a14 t = -1)
theorem fd_M_0 (h12 : ∀ g, g < G → a12 g = -1) (h14 : ∀ t, t < T → a14 t = -1) (hB : B + m ≤ G) : fd_M T B m 0 a12 a14 :=
  ⟨fun g h1 _ h2 => absurd h2 (by omega), fun g _ h => h12 g (by omega), fun t _ h => h14 t h⟩
theorem fd_M_Y {i : Nat} {y : Int32} (hi : i < T) (h : fd_M T B m i a12 a14) : fd_M T B m (i + 1) (upd a12 (B + i) (nI i)) (upd a14 i y) := by
  refine ⟨fun g h1 h2 h3 => ?_, fun g h1 h2 => ?_, fun t h1 h2 => ?_⟩
  · by_cases e : g = B + i
    · rw [e, pk_us]
      exact ⟨i, hi, rfl⟩
    · rw [pk_un e]
      exact h.1 g h1 h2 (by omega)
  · rw [pk_un (by omega)]
    exact h.2.1 g (by omega) h2
  · rw [pk_un (by omega)]
    exact h.2.2 t (by omega) h2
theorem fd_M_N {i : Nat} (hi : m ≤ i) (h : fd_M T B m i a12 a14) : fd_M T B m (i + 1) a12 a14 :=
  ⟨fun g h1 h2 _ => h.1 g h1 h2 (by omega), fun g h1 h2 => absurd h2 (by omega), fun t h1 h2 => h.2.2 t (by omega) h2⟩
/-- unmatched's loop over the takers: all but m of them stay without -/
theorem fd_u50 (hS : fd_S T G B m a8 a9 a10 a11) (hT : T ≤ 24) (hG : G ≤ 24) (hB : B + m ≤ G) (hM : fd_M T B m 0 a12 a14)
    (H : ∀ (l : Int32) (b12 b13 b14 b15 : Nat → Int32), post (nI (T - m)) (fc, fp, nI T, nI G, l, fk, a1, a2, a3, a4, a5, a6, a7, a8, a9, a10, a11, b12, b13, b14, b15, a16, a17)) :
    ∃ n, wX_unmatched_50 post n 0 0 fc fp (nI T) (nI G) fl fk a1 a2 a3 a4 a5 a6 a7 a8 a9 a10 a11 a12 a13 a14 a15 a16 a17 := by
  refine Exists.elim (pk_loop (fun n i (s : Int32 × (Nat → Int32) × (Nat → Int32) × (Nat → Int32) × (Nat → Int32)) => wX_unmatched_50 post n (nI (i - m)) (nI i) fc fp (nI T) (nI G) s.1 fk a1 a2 a3 a4 a5 a6 a7 a8 a9 a10 a11 s.2.1 s.2.2.1 s.2.2.2.1 s.2.2.2.2 a16 a17) (fun i s => fd_M T B m i s.2.1 s.2.2.2.1) T 0 (fl, a12, a13, a14, a15) (by omega) hM ?_ ?_) (fun n hn => ?_)
  rotate_left 2
  · have hn' : wX_unmatched_50 post n (nI (0 - m)) (nI 0) fc fp (nI T) (nI G) fl fk a1 a2 a3 a4 a5 a6 a7 a8 a9 a10 a11 a12 a13 a14 a15 a16 a17 := hn
    rw [Nat.zero_sub] at hn'
    exact ⟨n, hn'⟩
  · intro n s hs
    exact pk_le T T (fun _ => H _ _ _ _ _) (fun z => absurd z (by omega))
  · intro n i s hi hs hw
    refine pk_le T i (fun z => absurd z (by omega)) (fun _ => ?_)
    by_cases hm : i < m
    · refine fd_serveY hS hT hG hB hm hi (fun g h1 h2 => hs.1 g h1 (by omega) h2) (hs.2.1 (B + i) (Nat.le_refl _) (by omega)) (hs.2.2 i (Nat.le_refl _) hi) (fun e' c13 c15 => ?_)
      have w := hw (nI e', _, c13, _, c15) (fd_M_Y (y := nI (B + i)) hi hs)
      dsimp only at w
      rw [show i + 1 - m = i - m by omega] at w
      exact br_f (by decide) (nm_r (nI_1 i) w)
    · refine fd_serveN hS hT hG hi (fun g h1 h2 => hs.1 g h1 h2 (by omega)) (fun e' c13 c15 => ?_)
      have w := hw (nI e', s.2.1, c13, s.2.2.2.1, c15) (fd_M_N (by omega) hs)
      dsimp only at w
      rw [show i + 1 - m = i - m + 1 by omega] at w
      exact br_t rfl (nm_r (nI_1 _) (nm_r (nI_1 i) w))
/-- unmatched: all takers but m -/
theorem fd_unm (hS : fd_S T G B m a8 a9 a10 a11) (hT : T ≤ 24) (hG : G ≤ 24) (hB : B + m ≤ G)
    (H : ∀ (l : Int32) (b12 b13 b14 b15 : Nat → Int32), post (nI (T - m)) (fc, fp, nI T, nI G, l, fk, a1, a2, a3, a4, a5, a6, a7, a8, a9, a10, a11, b12, b13, b14, b15, a16, a17)) :
    wpX_unmatched post (fc, fp, nI T, nI G, fl, fk, a1, a2, a3, a4, a5, a6, a7, a8, a9, a10, a11, a12, a13, a14, a15, a16, a17) :=
  pk_loop (fun n i (s : Nat → Int32) => wX_unmatched_2 post fc fp (nI T) (nI G) fl fk n (nI i) a1 a2 a3 a4 a5 a6 a7 a8 a9 a10 a11 s a13 a14 a15 a16 a17) (fun i s => ∀ g, g < i → s g = -1) G 0 a12 (by omega) (fun g hg => absurd hg (Nat.not_lt_zero g))
    (fun n s hs => pk_le G G (fun _ =>
      pk_loop (fun n i (s' : Nat → Int32) => wX_unmatched_25 post fc fp (nI T) (nI G) fl fk n (nI i) a1 a2 a3 a4 a5 a6 a7 a8 a9 a10 a11 s a13 s' a15 a16 a17) (fun i s' => ∀ t, t < i → s' t = -1) T 0 a14 (by omega) (fun t ht => absurd ht (Nat.not_lt_zero t))
        (fun n s' hs' => pk_le T T (fun _ => fd_u50 hS hT hG hB (fd_M_0 hs hs' hB) H) (fun z => absurd z (by omega)))
        (fun n i s' hi hs' hw => pk_le T i (fun z => absurd z (by omega)) (fun _ => ⟨pk_in i 24 (by omega), nm_e (nm_r (nI_1 i) (hw _ (fd_fill (nI_clamp (by omega)) hs')))⟩))) (fun z => absurd z (by omega)))
    (fun n i s hi hs hw => pk_le G i (fun z => absurd z (by omega)) (fun _ => ⟨pk_in i 24 (by omega), nm_e (nm_r (nI_1 i) (hw _ (fd_fill (nI_clamp (by omega)) hs)))⟩))
end
end
section
/-- the law's three flags: a station, a time, a good setting -/
def fd_pl (s : Int32) : Int32 := if s < 0 then 0 else if 3 < s then 0 else 1
def fd_tm (x : Int32) : Int32 := if x < 0 then 0 else if 8 < x then 0 else 1
def fd_gd (s n : Int32) : Int32 := if fd_pl s = 0 then 0 else if n < 0 then 0 else if 3 < n then 0 else 1
theorem fd_pl_1 {s : Int32} (h : ¬ s < 0) (h3 : ¬ 3 < s) : fd_pl s = 1 := by
  unfold fd_pl
  rw [if_neg h, if_neg h3]
theorem fd_pl_a {s : Int32} (h : s < 0) : fd_pl s = 0 := by
  unfold fd_pl
  rw [if_pos h]
theorem fd_pl_b {s : Int32} (h : 3 < s) : fd_pl s = 0 := by
  unfold fd_pl
  rw [if_pos h, ite_self]
theorem fd_tm_1 {s : Int32} (h : ¬ s < 0) (h3 : ¬ 8 < s) : fd_tm s = 1 := by
  unfold fd_tm
  rw [if_neg h, if_neg h3]
theorem fd_tm_a {s : Int32} (h : s < 0) : fd_tm s = 0 := by
  unfold fd_tm
  rw [if_pos h]
theorem fd_tm_b {s : Int32} (h : 8 < s) : fd_tm s = 0 := by
  unfold fd_tm
  rw [if_pos h, ite_self]
theorem fd_nle {a b : Int32} (h : ¬ a ≤ b) : b < a := Int32.not_le.mp h
theorem fd_nlt {a b : Int32} (h : a ≤ b) : ¬ b < a := Int32.not_lt.mpr h
theorem fd_ge {a b : Int32} (h : ¬ b < a) : a ≤ b := Int32.not_lt.mp h
theorem fd_ofs {s : Int32} (h : ¬ s < 0) (h3 : ¬ 3 < s) : ∃ j : Nat, j ≤ 3 ∧ s = nI j := nI_of2 (M := 3) (n := 3) (by decide) h (fd_ge h3)
theorem fd_oft {s : Int32} (h : ¬ s < 0) (h3 : s ≤ 8) : ∃ j : Nat, j ≤ 8 ∧ s = nI j := nI_of2 (M := 8) (n := 8) (by decide) h h3
section
variable {post : Int32 → St2 → Prop} {fc fp ft fg fl fk : Int32} {a1 a2 a3 a4 a5 a6 a7 a8 a9 a10 a11 a12 a13 a14 a15 a16 a17 : Nat → Int32} {q : Nat → Nat} {c : Nat}
theorem fd_stock {ps : Int32 → Prop} {p0 : Int32} (H : ps (if fd_pl p0 = 0 then -1 else a5 p0.toNatClampNeg)) : wpX_stock ps (fc, fp, ft, fg, fl, fk, a1, a2, a3, a4, a5, a6, a7, a8, a9, a10, a11, a12, a13, a14, a15, a16, a17) p0 := by
  refine br_c (fun h => ?_) (fun h => br_c (fun h3 => ?_) (fun h3 => ?_))
  · rw [fd_pl_a h, if_pos rfl] at H
    exact H
  · rw [fd_pl_1 h (fd_nlt h3), if_neg (by decide)] at H
    obtain ⟨j, hj, e⟩ := fd_ofs h (fd_nlt h3)
    exact ⟨by rw [e]; exact pk_in j 4 (by omega), H⟩
  · rw [fd_pl_b (fd_nle h3), if_pos rfl] at H
    exact H
theorem fd_holds0 {ps : Int32 → Prop} {p0 : Int32} (hc : c ≤ 5) (H : ps 0) : wpX_holds ps (nI c, 0, ft, fg, fl, fk, a1, a2, a3, a4, a5, a6, a7, a8, a9, a10, a11, a12, a13, a14, a15, a16, a17) p0 := by
  refine br_c (fun _ => H) (fun h => br_c (fun _ => H) (fun h2 => br_t ?_ H))
  rcases pk_ix p0 (show c < 2 ^ 31 by omega) with h' | h' | ⟨j, hj, e⟩
  · exact absurd h' h
  · exact absurd h' h2
  · rw [e]
    exact fd_pr j (by omega)
theorem fd_cancel {p0 : Int32} (hc : c ≤ 5) (H : post (-1) (nI c, 0, ft, fg, fl, fk, a1, a2, a3, a4, a5, a6, a7, a8, a9, a10, a11, a12, a13, a14, a15, a16, a17)) : wpX_cancel post (nI c, 0, ft, fg, fl, fk, a1, a2, a3, a4, a5, a6, a7, a8, a9, a10, a11, a12, a13, a14, a15, a16, a17) p0 := by
  unfold wpX_cancel
  exact fd_holds0 hc (br_t rfl H)
/-- feasible: there are no bookings -/
theorem fd_feas (hc : c ≤ 5) (hq : fd_Q q a5) (H : ∀ (t g l : Int32) (b6 b7 b8 b9 b10 b11 b12 b13 b14 b15 : Nat → Int32), post 1 (nI c, 0, t, g, l, fk, a1, a2, a3, a4, a5, b6, b7, b8, b9, b10, b11, b12, b13, b14, b15, a16, a17)) : wpX_feasible post (nI c, 0, ft, fg, fl, fk, a1, a2, a3, a4, a5, a6, a7, a8, a9, a10, a11, a12, a13, a14, a15, a16, a17) := by
  unfold wpX_feasible
  refine fd_ask (by omega) (fun b6 b7 => ?_)
  unfold wpX_missing
  refine fd_gather (by omega) hq (fun b10 b11 hb => ?_)
  have hb := fd_B_12 hq 4 (by omega)
  refine fd_unm (T := 0) (B := 0) (m := 0) (fun t g ht _ => absurd ht (Nat.not_lt_zero t)) (by omega) (by omega) (by omega) (fun l b12 b13 b14 b15 => ?_)
  exact br_t rfl (H _ _ _ _ _ _ _ _ _ _ _ _ _)
theorem fd_Q_upd {j n : Nat} (hn : n ≤ 3) (hq : fd_Q q a5) : fd_Q (fun s => if s = j then n else q s) (upd a5 j (nI n)) := by
  intro s hs
  by_cases e : s = j
  · rw [e, pk_us]
    dsimp only
    rw [if_pos rfl]
    exact ⟨hn, rfl⟩
  · rw [pk_un e]
    dsimp only
    rw [if_neg e]
    exact hq s hs
theorem fd_setStock {p0 p1 : Int32} (hc : c ≤ 5) (hq : fd_Q q a5) (H0 : fd_gd p0 p1 = 0 → post (-1) (nI c, 0, ft, fg, fl, fk, a1, a2, a3, a4, a5, a6, a7, a8, a9, a10, a11, a12, a13, a14, a15, a16, a17)) (H1 : fd_gd p0 p1 = 1 → ∀ (t g l : Int32) (b6 b7 b8 b9 b10 b11 b12 b13 b14 b15 : Nat → Int32), post p1 (nI c, 0, t, g, l, 0, a1, a2, a3, a4, upd a5 p0.toNatClampNeg p1, b6, b7, b8, b9, b10, b11, b12, b13, b14, b15, a16, a17)) : wpX_setStock post (nI c, 0, ft, fg, fl, fk, a1, a2, a3, a4, a5, a6, a7, a8, a9, a10, a11, a12, a13, a14, a15, a16, a17) p0 p1 := by
  have K : ∀ {x : Prop}, (x → fd_gd p0 p1 = 0) → x → post (-1) (nI c, 0, ft, fg, fl, fk, a1, a2, a3, a4, a5, a6, a7, a8, a9, a10, a11, a12, a13, a14, a15, a16, a17) := fun f h => H0 (f h)
  refine br_c (K fun h => ?_) (fun h => br_c (K fun h3 => ?_) (fun h3 => br_c (K fun g => ?_) (fun g => br_c (fun g3 => ?_) (K fun g3 => ?_))))
  · unfold fd_gd
    rw [fd_pl_a h, if_pos rfl]
  · unfold fd_gd
    rw [fd_pl_b h3, if_pos rfl]
  · unfold fd_gd
    rw [if_pos g, ite_self]
  · have e1 : fd_gd p0 p1 = 1 := by
      unfold fd_gd
      rw [fd_pl_1 h h3, if_neg (by decide), if_neg g, if_neg (fd_nlt g3)]
    obtain ⟨j, hj, e⟩ := fd_ofs h h3
    obtain ⟨n, hn, en⟩ := fd_ofs g (fd_nlt g3)
    have hj4 : vp_in p0 4 := by
      rw [e]
      exact pk_in j 4 (by omega)
    have ej : p0.toNatClampNeg = j := by
      rw [e]
      exact nI_clamp (by omega)
    have eb : p1.toInt8.toInt32 = p1 := by
      rw [en]
      exact fd_b8 n (by omega)
    have hq' : fd_Q (fun s => if s = j then n else q s) (upd a5 p0.toNatClampNeg p1) := by
      rw [ej, en]
      exact fd_Q_upd hn hq
    refine ⟨hj4, nm_e ⟨hj4, nm_r (e' := upd a5 p0.toNatClampNeg p1) (by rw [eb]) ?_⟩⟩
    exact fd_feas hc hq' (fun t g l b6 b7 b8 b9 b10 b11 b12 b13 b14 b15 => br_f (by decide) (H1 e1 _ _ _ _ _ _ _ _ _ _ _ _ _))
  · unfold fd_gd
    rw [if_pos (fd_nle g3), ite_self, ite_self]
/-- the takers of a question are added one by one, then unmatched is asked: shortage's loop -/
theorem fd_h44 {s x k : Nat} {y : Int32} (hq : fd_Q q a5) (hs : s < 4) (hx : x ≤ 8) (hk : k ≤ 24) (hy : y.toInt8.toInt32 = nI (2 ^ s)) (hG : fd_G q (fd_B q 4) a10 a11)
    (H : ∀ (t g l : Int32) (b8 b9 b12 b13 b14 b15 : Nat → Int32), post (nI (k - q s)) (fc, fp, t, g, l, fk, a1, a2, a3, a4, a5, a6, a7, b8, b9, a10, a11, b12, b13, b14, b15, a16, a17)) :
    ∃ n, wX_shortage_44 post y (nI x) (nI k) n 0 fc fp (nI 0) (nI (fd_B q 4)) fl fk a1 a2 a3 a4 a5 a6 a7 a8 a9 a10 a11 a12 a13 a14 a15 a16 a17 := by
  have hb := fd_B_12 hq 4 (by omega)
  refine pk_loop (fun n i (w : (Nat → Int32) × (Nat → Int32)) => wX_shortage_44 post y (nI x) (nI k) n (nI i) fc fp (nI i) (nI (fd_B q 4)) fl fk a1 a2 a3 a4 a5 a6 a7 w.1 w.2 a10 a11 a12 a13 a14 a15 a16 a17) (fun i w => fd_K i s x w.1 w.2) k 0 (a8, a9) (by omega) (fun t ht => absurd ht (Nat.not_lt_zero t)) ?_ ?_
  · intro n w hw
    exact pk_le k k (fun _ => fd_unm (fd_suit hs hx hG hw) hk (by omega) (fd_B_le q (show s + 1 ≤ 4 by omega)) (fun l b12 b13 b14 b15 => H _ _ _ _ _ _ _ _ _)) (fun z => absurd z (by omega))
  · intro n i w hi hK hw
    exact pk_le k i (fun z => absurd z (by omega)) (fun _ => fd_addT (by omega) hy (fd_b8 x (by omega)) (nm_r (nI_1 i) (hw (_, _) (fd_K_add hK))))
theorem fd_shortage {p1 p2 : Int32} (hc : c ≤ 5) (hq : fd_Q q a5) (h0 : q 3 = 0) (H : ∀ (t g l : Int32) (b6 b7 b8 b9 b10 b11 b12 b13 b14 b15 : Nat → Int32), post (if fd_tm p1 = 0 then -1 else if p2 < 0 then -1 else if 9 < p2 then -1 else p2) (nI c, 0, t, g, l, fk, a1, a2, a3, a4, a5, b6, b7, b8, b9, b10, b11, b12, b13, b14, b15, a16, a17)) : wpX_shortage post (nI c, 0, ft, fg, fl, fk, a1, a2, a3, a4, a5, a6, a7, a8, a9, a10, a11, a12, a13, a14, a15, a16, a17) 8 p1 p2 := by
  have K : ∀ {x : Prop}, (x → (if fd_tm p1 = 0 then -1 else if p2 < 0 then -1 else if 9 < p2 then -1 else p2) = -1) → x → post (-1) (nI c, 0, ft, fg, fl, fk, a1, a2, a3, a4, a5, a6, a7, a8, a9, a10, a11, a12, a13, a14, a15, a16, a17) := by
    intro x f h
    have H := H ft fg fl a6 a7 a8 a9 a10 a11 a12 a13 a14 a15
    rw [f h] at H
    exact H
  refine br_f (by decide) (br_f (by decide) (br_c (K fun h => ?_) (fun h => br_c (K fun h8 => ?_) (fun h8 => br_c (K fun g => ?_) (fun g => br_c (fun g9 => ?_) (K fun g9 => ?_))))))
  · rw [fd_tm_a h, if_pos rfl]
  · rw [fd_tm_b h8, if_pos rfl]
  · rw [if_pos g, ite_self]
  · rw [fd_tm_1 h h8, if_neg (by decide), if_neg g, if_neg (fd_nlt g9)] at H
    obtain ⟨x, hx, e⟩ := fd_oft h (fd_ge h8)
    obtain ⟨k, hk, ek⟩ := nI_of2 (M := 9) (n := 9) (by decide) g g9
    rw [e, ek]
    rw [ek] at H
    refine fd_ask (by omega) (fun b6 b7 => fd_gather (by omega) hq (fun b10 b11 hb => fd_h44 (s := 3) hq (by omega) hx (by omega) (by decide) hb (fun t g l b8 b9 b12 b13 b14 b15 => ?_)))
    rw [h0, Nat.sub_zero]
    exact H _ _ _ _ _ _ _ _ _ _ _ _ _
  · rw [if_pos (fd_nle g9), ite_self, ite_self]
end
end
section
section
variable {post : Int32 → St2 → Prop} {fc fp ft fg fl fk : Int32} {a1 a2 a3 a4 a5 a6 a7 a8 a9 a10 a11 a12 a13 a14 a15 a16 a17 : Nat → Int32} {q : Nat → Nat} {c : Nat}
/-- spare's inner loop: k takers alike, then unmatched -/
theorem fd_s52 {J : Int32 → Int32 → Int32 → Int32 → Int32 → Int32 → Int32 → Int32 → Int32 → (Nat → Int32) → (Nat → Int32) → (Nat → Int32) → (Nat → Int32) → (Nat → Int32) → (Nat → Int32) → (Nat → Int32) → (Nat → Int32) → (Nat → Int32) → (Nat → Int32) → (Nat → Int32) → (Nat → Int32) → (Nat → Int32) → (Nat → Int32) → (Nat → Int32) → (Nat → Int32) → (Nat → Int32) → Prop} {s x k : Nat} {x3 : Int32} (hq : fd_Q q a5) (hs : s < 4) (hx : x ≤ 8) (hk : k ≤ 24) (hG : fd_G q (fd_B q 4) a10 a11)
    (H1 : k ≤ q s → ∀ (t g l : Int32) (b8 b9 b12 b13 b14 b15 : Nat → Int32), J (nI k) 1 (nI (k + 1)) fc fp t g l fk a1 a2 a3 a4 a5 a6 a7 b8 b9 a10 a11 b12 b13 b14 b15 a16 a17)
    (H0 : q s < k → ∀ (t g l : Int32) (b8 b9 b12 b13 b14 b15 : Nat → Int32), J x3 0 (nI (k + 1)) fc fp t g l fk a1 a2 a3 a4 a5 a6 a7 b8 b9 a10 a11 b12 b13 b14 b15 a16 a17) :
    ∃ n, wX_spare_52 post J (nI s) (nI x) x3 (nI k) n 0 fc fp (nI 0) (nI (fd_B q 4)) fl fk a1 a2 a3 a4 a5 a6 a7 a8 a9 a10 a11 a12 a13 a14 a15 a16 a17 := by
  have hb := fd_B_12 hq 4 (by omega)
  refine pk_loop (fun n i (w : (Nat → Int32) × (Nat → Int32)) => wX_spare_52 post J (nI s) (nI x) x3 (nI k) n (nI i) fc fp (nI i) (nI (fd_B q 4)) fl fk a1 a2 a3 a4 a5 a6 a7 w.1 w.2 a10 a11 a12 a13 a14 a15 a16 a17) (fun i w => fd_K i s x w.1 w.2) k 0 (a8, a9) (by omega) (fun t ht => absurd ht (Nat.not_lt_zero t)) ?_ ?_
  · intro n w hw
    refine pk_le k k (fun _ => fd_unm (fd_suit hs hx hG hw) hk (by omega) (fd_B_le q (show s + 1 ≤ 4 by omega)) (fun l b12 b13 b14 b15 => ?_)) (fun z => absurd z (by omega))
    exact pk_eq (k - q s) 0 (fun z => br_f (by decide) (nm_r (nI_1 k) (H1 (by omega) _ _ _ _ _ _ _ _ _))) (fun z => br_t rfl (nm_r (nI_1 k) (H0 (by omega) _ _ _ _ _ _ _ _ _)))
  · intro n i w hi hK hw
    exact pk_le k i (fun z => absurd z (by omega)) (fun _ => fd_addT (by omega) (by rw [fd_shl s hs]; exact fd_b8 _ (fd_p2 s hs)) (fd_b8 x (by omega)) (nm_r (nI_1 i) (hw (_, _) (fd_K_add hK))))
/-- one turn of spare's loop -/
theorem fd_s29 {s x k n : Nat} {x3 : Int32} (hc : c ≤ 5) (hq : fd_Q q a5) (hs : s < 4) (hx : x ≤ 8) (hk : k ≤ 17)
    (H1 : k ≤ q s → ∀ (t g l : Int32) (b6 b7 b8 b9 b10 b11 b12 b13 b14 b15 : Nat → Int32), wX_spare_29 post (nI s) (nI x) n (nI k) 1 (nI (k + 1)) (nI c) 0 t g l fk a1 a2 a3 a4 a5 b6 b7 b8 b9 b10 b11 b12 b13 b14 b15 a16 a17)
    (H0 : q s < k → ∀ (t g l : Int32) (b6 b7 b8 b9 b10 b11 b12 b13 b14 b15 : Nat → Int32), wX_spare_29 post (nI s) (nI x) n x3 0 (nI (k + 1)) (nI c) 0 t g l fk a1 a2 a3 a4 a5 b6 b7 b8 b9 b10 b11 b12 b13 b14 b15 a16 a17) :
    wX_spare_29 post (nI s) (nI x) (n + 1) x3 1 (nI k) (nI c) 0 ft fg fl fk a1 a2 a3 a4 a5 a6 a7 a8 a9 a10 a11 a12 a13 a14 a15 a16 a17 := by
  refine pk_lt 17 k (fun z => absurd z (by omega)) (fun _ => br_f (by decide) (fd_ask (by omega) (fun b6 b7 => fd_gather (by omega) hq (fun b10 b11 hb => ?_))))
  exact fd_s52 hq hs hx (by omega) hb (fun z t g l b8 b9 b12 b13 b14 b15 => H1 z t g l _ _ b8 b9 _ _ b12 b13 b14 b15) (fun z t g l b8 b9 b12 b13 b14 b15 => H0 z t g l _ _ b8 b9 _ _ b12 b13 b14 b15)
theorem fd_sAll {s x : Nat} (hc : c ≤ 5) (hq : fd_Q q a5) (hs : s < 4) (hx : x ≤ 8) (H : ∀ (t g l : Int32) (b6 b7 b8 b9 b10 b11 b12 b13 b14 b15 : Nat → Int32), post (nI (q s)) (nI c, 0, t, g, l, fk, a1, a2, a3, a4, a5, b6, b7, b8, b9, b10, b11, b12, b13, b14, b15, a16, a17)) :
    ∀ d i, i + d = q s → ∀ (t g l : Int32) (b6 b7 b8 b9 b10 b11 b12 b13 b14 b15 : Nat → Int32), wX_spare_29 post (nI s) (nI x) (d + 2) (nI i) 1 (nI (i + 1)) (nI c) 0 t g l fk a1 a2 a3 a4 a5 b6 b7 b8 b9 b10 b11 b12 b13 b14 b15 a16 a17 := by
  have h3 := (hq s hs).1
  intro d
  induction d with
  | zero =>
    intro i hi t g l b6 b7 b8 b9 b10 b11 b12 b13 b14 b15
    refine fd_s29 hc hq hs hx (by omega) (fun z => absurd z (by omega)) (fun _ t g l b6 b7 b8 b9 b10 b11 b12 b13 b14 b15 => ?_)
    rw [show i = q s by omega]
    exact br_c (fun _ => H _ _ _ _ _ _ _ _ _ _ _ _ _) (fun _ => br_t rfl (H _ _ _ _ _ _ _ _ _ _ _ _ _))
  | succ d ih =>
    intro i hi t g l b6 b7 b8 b9 b10 b11 b12 b13 b14 b15
    exact fd_s29 hc hq hs hx (by omega) (fun _ => ih (i + 1) (by omega)) (fun z => absurd z (by omega))
theorem fd_spare {p0 p1 : Int32} (hc : c ≤ 5) (hq : fd_Q q a5) (H : ∀ (t g l : Int32) (b6 b7 b8 b9 b10 b11 b12 b13 b14 b15 : Nat → Int32), post (if fd_pl p0 = 0 then -1 else if fd_tm p1 = 0 then -1 else a5 p0.toNatClampNeg) (nI c, 0, t, g, l, fk, a1, a2, a3, a4, a5, b6, b7, b8, b9, b10, b11, b12, b13, b14, b15, a16, a17)) : wpX_spare post (nI c, 0, ft, fg, fl, fk, a1, a2, a3, a4, a5, a6, a7, a8, a9, a10, a11, a12, a13, a14, a15, a16, a17) p0 p1 := by
  have K : ∀ {x : Prop}, (x → (if fd_pl p0 = 0 then -1 else if fd_tm p1 = 0 then -1 else a5 p0.toNatClampNeg) = -1) → x → post (-1) (nI c, 0, ft, fg, fl, fk, a1, a2, a3, a4, a5, a6, a7, a8, a9, a10, a11, a12, a13, a14, a15, a16, a17) := by
    intro x f h
    have H := H ft fg fl a6 a7 a8 a9 a10 a11 a12 a13 a14 a15
    rw [f h] at H
    exact H
  refine br_c (K fun h => ?_) (fun h => br_c (K fun h3 => ?_) (fun h3 => br_c (K fun g => ?_) (fun g => br_c (fun g8 => ?_) (K fun g8 => ?_))))
  · rw [fd_pl_a h, if_pos rfl]
  · rw [fd_pl_b h3, if_pos rfl]
  · rw [fd_tm_a g, if_pos rfl, ite_self]
  · rw [fd_pl_1 h h3, if_neg (by decide), fd_tm_1 g (fd_nlt g8), if_neg (by decide)] at H
    obtain ⟨s, hs, e⟩ := fd_ofs h h3
    obtain ⟨x, hx, ex⟩ := fd_oft g g8
    rw [e, nI_clamp (by omega), (hq s (by omega)).2] at H
    rw [e, ex]
    exact ⟨q s + 2, fd_sAll hc hq (by omega) hx H (q s) 0 (by omega) _ _ _ _ _ _ _ _ _ _ _ _ _⟩
  · rw [fd_tm_b (fd_nle g8), if_pos rfl, ite_self]
end
end
section
theorem fd_clamp {ps : Int32 → Prop} {z : Int32} (H : ps (fd_cl z)) : wpX_clamp ps () z := by
  refine br_c (fun h => br_c (fun h3 => ?_) (fun h3 => ?_)) (fun h => ?_)
  · unfold fd_cl at H
    rw [if_pos h, if_pos h3] at H
    exact H
  · unfold fd_cl at H
    rw [if_pos h, if_neg h3] at H
    exact H
  · unfold fd_cl at H
    rw [if_neg h] at H
    exact H
theorem fd_cl8 (z : Int32) : (fd_cl z).toInt8.toInt32 = fd_cl z := by
  obtain ⟨j, hj, e⟩ := fd_cl_n z
  rw [e]
  exact fd_b8 j (by omega)
/-- the stocks that the law's object begins with -/
def fd_A5 (x y z : Int32) : Nat → Int32 := upd (upd (upd (fun _ => 0) 0 (fd_cl x)) 1 (fd_cl y)) 2 (fd_cl z)
theorem fd_A5_Q (x y z : Int32) : ∃ q : Nat → Nat, fd_Q q (fd_A5 x y z) ∧ q 3 = 0 := by
  obtain ⟨i, hi, ei⟩ := fd_cl_n x
  obtain ⟨j, hj, ej⟩ := fd_cl_n y
  obtain ⟨k, hk, ek⟩ := fd_cl_n z
  refine ⟨fun s => if s = 0 then i else if s = 1 then j else if s = 2 then k else 0, fun s hs => ?_, rfl⟩
  unfold fd_A5
  rw [ei, ej, ek]
  rcases (show s = 0 ∨ s = 1 ∨ s = 2 ∨ s = 3 by omega) with e | e | e | e <;> subst e
  · exact ⟨hi, rfl⟩
  · exact ⟨hj, rfl⟩
  · exact ⟨hk, rfl⟩
  · exact ⟨Nat.zero_le 3, rfl⟩
section
variable {ps : St2 → Prop} {fc fp ft fg fl fk : Int32}
theorem fd_i159 {mc ms kc ks : Nat} {x2 x3 x4 z0 : Int32} {a1 a2 a3 a4 a6 a7 a8 a9 a10 a11 a12 a13 a14 a15 a16 a17 : Nat → Int32} (H : ps (z0, fp, ft, fg, fl, fk, a1, a2, a3, a4, fd_A5 x2 x3 x4, a6, a7, a8, a9, a10, a11, a12, a13, a14, a15, a16, a17)) : wX_init_159 ps mc ms x2 x3 x4 z0 kc ks fc fp ft fg fl fk a1 a2 a3 a4 (fun _ => 0) a6 a7 a8 a9 a10 a11 a12 a13 a14 a15 a16 a17 := by
  unfold wX_init_159
  refine fd_clamp (nm_r (by rw [fd_cl8]) (fd_clamp (nm_r (by rw [fd_cl8]) (fd_clamp (nm_r (by rw [fd_cl8]; rfl) H)))))
theorem fd_init {x2 x3 x4 p0 : Int32} (H : ∀ c : Nat, c ≤ 5 → ∀ a1 a2 a3 a4 a6 a7 a8 a9 a10 a11 a12 a13 a14 a15 a16 a17 : Nat → Int32, ps (nI c, fp, ft, fg, fl, fk, a1, a2, a3, a4, fd_A5 x2 x3 x4, a6, a7, a8, a9, a10, a11, a12, a13, a14, a15, a16, a17)) : wpX_init ps 17 260 (fc, fp, ft, fg, fl, fk) p0 x2 x3 x4 := by
  unfold wpX_init
  refine ⟨by omega, by omega, by omega, by omega, by omega, by omega, by omega, by omega, by omega, by omega, by omega, by omega, by omega, by omega, by omega, by omega, by omega, by omega, by omega, by omega, by omega, by omega, by omega, by omega, by omega, by omega, by omega, by omega, by omega, by omega, by omega, by omega, by omega, by omega, ?_⟩
  refine br_c (fun h => br_c (fun h5 => ?_) (fun _ => ?_)) (fun _ => ?_)
  · have h0 : ¬ p0 < 0 := by
      intro l
      have h' := Int32.le_iff_toInt_le.mp h
      have l' := Int32.lt_iff_toInt_lt.mp l
      have e1 : (1 : Int32).toInt = 1 := by decide
      have e0 : (0 : Int32).toInt = 0 := by decide
      omega
    obtain ⟨c, hc, e⟩ := nI_of2 (M := 5) (n := 5) (by decide) h0 h5
    rw [e]
    exact fd_i159 (H c hc _ _ _ _ _ _ _ _ _ _ _ _ _ _ _ _)
  · exact fd_i159 (H 5 (by omega) _ _ _ _ _ _ _ _ _ _ _ _ _ _ _ _)
  · exact fd_i159 (H 1 (by omega) _ _ _ _ _ _ _ _ _ _ _ _ _ _ _ _)
end
section
variable {post : Int32 → St0 → Prop} {mc ms kc ks : Nat} {x3 x4 x5 x7 x8 x9 x10 x11 x12 x14 x15 x16 z0 v : Int32}
/-- the law's six checks, out of its three flags -/
theorem fd_180 (H : post 1 ())
    (h7 : x7 = if x15 = 0 then -1 else x14)
    (h8 : x8 = if x15 = 0 then -1 else if x16 = 0 then -1 else x14)
    (h9 : x9 = if x16 = 0 then -1 else if x5 < 0 then -1 else if 9 < x5 then -1 else x5)
    (h10 : x10 = -1)
    (h11 : x11 = if z0 = 0 then -1 else x5)
    (h12 : x12 = if x15 = 0 then -1 else if z0 = 0 then x14 else x5) :
    wL_lawOf_180 post mc ms x5 x7 x8 x9 x10 x11 x12 x14 x15 x16 z0 kc ks := by
  have C292 : ∀ {y0 y1 : Int32}, y1 = y0 → wL_lawOf_292 post mc ms y0 y1 kc ks := fun e => br_t e H
  have C266 : ∀ {y0 : Int32}, x11 = y0 → wL_lawOf_266 post mc ms x5 x12 x14 x15 z0 y0 x11 kc ks := by
    intro y0 e
    refine br_t e (br_c (fun e5 => C292 ?_) (fun n5 => br_c (fun ez => C292 ?_) (fun nz => C292 ?_)))
    · rw [h12, if_pos e5]
    · rw [h12, if_neg n5, if_pos ez]
    · rw [h12, if_neg n5, if_neg nz]
  have C244 : ∀ {y0 : Int32}, x9 = y0 → wL_lawOf_244 post mc ms x5 x10 x11 x12 x14 x15 z0 y0 x9 kc ks := by
    intro y0 e
    refine br_t e (br_t h10 (br_c (fun ez => C266 ?_) (fun nz => C266 ?_)))
    · rw [h11, if_pos ez]
    · rw [h11, if_neg nz]
  have C216 : ∀ {y0 : Int32}, x8 = y0 → wL_lawOf_216 post mc ms x5 x9 x10 x11 x12 x14 x15 x16 z0 y0 x8 kc ks := by
    intro y0 e
    refine br_t e (br_c (fun e6 => C244 ?_) (fun n6 => br_c (fun g => C244 ?_) (fun g => br_c (fun g9 => C244 ?_) (fun g9 => C244 ?_))))
    · rw [h9, if_pos e6]
    · rw [h9, if_neg n6, if_pos g]
    · rw [h9, if_neg n6, if_neg g, if_pos g9]
    · rw [h9, if_neg n6, if_neg g, if_neg g9]
  have C195 : ∀ {y0 : Int32}, x7 = y0 → wL_lawOf_195 post mc ms x5 x8 x9 x10 x11 x12 x14 x15 x16 z0 y0 x7 kc ks := by
    intro y0 e
    refine br_t e (br_c (fun e5 => C216 ?_) (fun n5 => br_c (fun e6 => C216 ?_) (fun n6 => C216 ?_)))
    · rw [h8, if_pos e5]
    · rw [h8, if_neg n5, if_pos e6]
    · rw [h8, if_neg n5, if_neg n6]
  refine br_c (fun e5 => C195 ?_) (fun n5 => C195 ?_)
  · rw [h7, if_pos e5]
  · rw [h7, if_neg n5]
theorem fd_99 (H : post 1 ()) (hv : ¬ fd_pl x3 = 0 → v = fd_cl z0)
    (h7 : x7 = if fd_pl x3 = 0 then -1 else v)
    (h8 : x8 = if fd_pl x3 = 0 then -1 else if fd_tm x4 = 0 then -1 else v)
    (h9 : x9 = if fd_tm x4 = 0 then -1 else if x5 < 0 then -1 else if 9 < x5 then -1 else x5)
    (h10 : x10 = -1)
    (h11 : x11 = if fd_gd x3 x5 = 0 then -1 else x5)
    (h12 : x12 = if fd_pl x3 = 0 then -1 else if fd_gd x3 x5 = 0 then v else x5) :
    wL_lawOf_99 post mc ms x3 x4 x5 x7 x8 x9 x10 x11 x12 z0 kc ks := by
  have C180 : wL_lawOf_180 post mc ms x5 x7 x8 x9 x10 x11 x12 (fd_cl z0) (fd_pl x3) (fd_tm x4) (fd_gd x3 x5) kc ks := by
    by_cases e : fd_pl x3 = 0
    · refine fd_180 H ?_ ?_ h9 h10 h11 ?_
      · rw [h7, if_pos e, if_pos e]
      · rw [h8, if_pos e, if_pos e]
      · rw [h12, if_pos e, if_pos e]
    · rw [← hv e]
      exact fd_180 H h7 h8 h9 h10 h11 h12
  have C157 : wL_lawOf_157 post mc ms x5 x7 x8 x9 x10 x11 x12 (fd_cl z0) (fd_pl x3) (fd_tm x4) kc ks := by
    unfold fd_gd at C180
    refine br_c (fun e => ?_) (fun n => br_c (fun g => ?_) (fun g => br_c (fun g3 => ?_) (fun g3 => ?_)))
    · rw [if_pos e] at C180
      exact C180
    · rw [if_neg n, if_pos g] at C180
      exact C180
    · rw [if_neg n, if_neg g, if_pos g3] at C180
      exact C180
    · rw [if_neg n, if_neg g, if_neg g3] at C180
      exact C180
  have C138 : wL_lawOf_138 post mc ms x4 x5 x7 x8 x9 x10 x11 x12 (fd_cl z0) (fd_pl x3) kc ks := by
    refine br_c (fun h => ?_) (fun h => br_c (fun h8 => ?_) (fun h8 => ?_))
    · rw [fd_tm_a h] at C157
      exact C157
    · rw [fd_tm_b h8] at C157
      exact C157
    · rw [fd_tm_1 h h8] at C157
      exact C157
  have C122 : wL_lawOf_122 post mc ms x3 x4 x5 x7 x8 x9 x10 x11 x12 (fd_cl z0) kc ks := by
    refine br_c (fun h => ?_) (fun h => br_c (fun h3 => ?_) (fun h3 => ?_))
    · rw [fd_pl_a h] at C138
      exact C138
    · rw [fd_pl_b h3] at C138
      exact C138
    · rw [fd_pl_1 h h3] at C138
      exact C138
  unfold fd_cl at C122
  refine br_c (fun h => br_c (fun h3 => ?_) (fun h3 => ?_)) (fun h => ?_)
  · rw [if_pos h, if_pos h3] at C122
    exact C122
  · rw [if_pos h, if_neg h3] at C122
    exact C122
  · rw [if_neg h] at C122
    exact C122
end
theorem fd_lawOf {post : Int32 → St0 → Prop} (H : post 1 ()) (p0 p1 p2 p3 p4 p5 : Int32) : wpL_lawOf post 18 283 () p0 p1 p2 p3 p4 p5 := by
  unfold wpL_lawOf
  obtain ⟨q, hq, h3⟩ := fd_A5_Q p0 p1 p2
  refine ⟨by omega, by omega, 17, 260, by omega, by omega, fd_init (fun c hc a1 a2 a3 a4 a6 a7 a8 a9 a10 a11 a12 a13 a14 a15 a16 a17 => ?_)⟩
  refine fd_stock (fd_spare hc hq (fun t g l b6 b7 b8 b9 b10 b11 b12 b13 b14 b15 => ?_))
  refine fd_shortage hc hq h3 (fun t g l b6 b7 b8 b9 b10 b11 b12 b13 b14 b15 => ?_)
  refine fd_cancel hc ?_
  have F : ∀ {r11 r12 : Int32}, (r11 = if fd_gd p3 p5 = 0 then -1 else p5) → (r12 = if fd_pl p3 = 0 then -1 else if fd_gd p3 p5 = 0 then fd_A5 p0 p1 p2 p3.toNatClampNeg else p5) →
      ∀ z0 : Int32, (¬ fd_pl p3 = 0 → fd_A5 p0 p1 p2 p3.toNatClampNeg = fd_cl z0) →
      wL_lawOf_99 post 18 283 p3 p4 p5 (if fd_pl p3 = 0 then -1 else fd_A5 p0 p1 p2 p3.toNatClampNeg) (if fd_pl p3 = 0 then -1 else if fd_tm p4 = 0 then -1 else fd_A5 p0 p1 p2 p3.toNatClampNeg) (if fd_tm p4 = 0 then -1 else if p5 < 0 then -1 else if 9 < p5 then -1 else p5) (-1) r11 r12 z0 (1 + 17) (23 + 260) :=
    fun e11 e12 z0 hv => fd_99 H hv rfl rfl rfl rfl e11 e12
  have V3 : ¬ p3 = 0 → ¬ p3 = 1 → ¬ p3 = 2 → ¬ fd_pl p3 = 0 → fd_A5 p0 p1 p2 p3.toNatClampNeg = fd_cl 0 := by
    intro n0 n1 n2 np
    by_cases h : p3 < 0
    · exact absurd (fd_pl_a h) np
    · by_cases h3 : 3 < p3
      · exact absurd (fd_pl_b h3) np
      · obtain ⟨j, hj, e⟩ := fd_ofs h h3
        rcases (show j = 0 ∨ j = 1 ∨ j = 2 ∨ j = 3 by omega) with z | z | z | z <;> subst z
        · exact absurd e n0
        · exact absurd e n1
        · exact absurd e n2
        · rw [e, nI_clamp (by omega)]
          rfl
  refine fd_setStock hc hq (fun e => ?_) (fun e t g l b6 b7 b8 b9 b10 b11 b12 b13 b14 b15 => ?_)
  · refine fd_stock ?_
    have F := F (r11 := -1) (r12 := if fd_pl p3 = 0 then -1 else fd_A5 p0 p1 p2 p3.toNatClampNeg) (by rw [if_pos e]) (by rw [if_pos e])
    refine br_c (fun e0 => F p0 (fun _ => by rw [e0]; rfl)) (fun n0 => br_c (fun e1 => F p1 (fun _ => by rw [e1]; rfl)) (fun n1 => br_c (fun e2 => F p2 (fun _ => by rw [e2]; rfl)) (fun n2 => F 0 (V3 n0 n1 n2))))
  · refine fd_stock ?_
    have e' : ¬ fd_gd p3 p5 = 0 := by
      rw [e]
      decide
    have F := F (r11 := p5) (r12 := if fd_pl p3 = 0 then -1 else upd (fd_A5 p0 p1 p2) p3.toNatClampNeg p5 p3.toNatClampNeg) (by rw [if_neg e']) (by rw [if_neg e', pk_us])
    refine br_c (fun e0 => F p0 (fun _ => by rw [e0]; rfl)) (fun n0 => br_c (fun e1 => F p1 (fun _ => by rw [e1]; rfl)) (fun n1 => br_c (fun e2 => F p2 (fun _ => by rw [e2]; rfl)) (fun n2 => F 0 (V3 n0 n1 n2))))
theorem fd_cell {ps : Int32 → Prop} {L : Nat} {xs : Nat → Int32} (k : Nat) (hL : L ≤ 6) (hk : k ≤ 6) (H : ∀ r, ps r) : wpL_cellAt ps L xs () (nI k) :=
  pk_le L k (fun _ => H _) (fun z => ⟨pk_in k L z, H _⟩)
end
section
theorem i_vc (xs : Nat → Int32) (L : Nat) (hL : L ≤ 6) : wpL_law (fun r => r = 1) L xs := by
  unfold wpL_law
  refine fd_cell 0 hL (by omega) (fun r1 => fd_cell 1 hL (by omega) (fun r2 => fd_cell 2 hL (by omega) (fun r3 => fd_cell 3 hL (by omega) (fun r4 => fd_cell 4 hL (by omega) (fun r5 => fd_cell 5 hL (by omega) (fun r6 => ?_))))))
  exact ⟨18, 283, by omega, by omega, fd_lawOf rfl r1 r2 r3 r4 r5 r6⟩
end
