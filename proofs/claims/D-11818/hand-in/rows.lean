section
/-! an area is (first, end, token of its kind); kn c is the kind of the token c -/
/-- the areas of a list stand in three arrays from place i on -/
def ar_at (kn : Nat → Nat) (N : Nat) (a1 a2 a3 : Nat → Int32) : Nat → List (Nat × Nat × Nat) → Prop
  | _, [] => True
  | i, x :: r => a1 i = nI x.1 ∧ a2 i = nI x.2.1 ∧ a3 i = nI (kn x.2.2) ∧ x.1 ≤ 64 ∧ x.2.1 ≤ 64 ∧ x.2.2 < N ∧ ar_at kn N a1 a2 a3 (i + 1) r
/-- the list that is being made, its last piece first -/
def ar_mk (kn : Nat → Nat) (N : Nat) (a4 a5 a6 : Nat → Int32) : List (Nat × Nat × Nat) → Prop
  | [] => True
  | x :: r => a4 r.length = nI x.1 ∧ a5 r.length = nI x.2.1 ∧ a6 r.length = nI (kn x.2.2) ∧ x.1 ≤ 64 ∧ x.2.1 ≤ 64 ∧ x.2.2 < N ∧ ar_mk kn N a4 a5 a6 r
def ar_K (kn : Nat → Nat) (N : Nat) : Prop := (∀ c, c < N → kn c < 128) ∧ (∀ c d, c < N → d < N → kn c = kn d → c = d)
/-- a state holds a list -/
def ar_S (kn : Nat → Nat) (N : Nat) (l : List (Nat × Nat × Nat)) (u : St2) : Prop := u.1 = nI l.length ∧ l.length ≤ 20 ∧ ar_at kn N u.2.2.1 u.2.2.2.1 u.2.2.2.2.1 0 l
def ar_emit (m : List (Nat × Nat × Nat)) (f e k : Nat) : List (Nat × Nat × Nat) :=
  if f < e then
    match m with
    | [] => [(f, e, k)]
    | x :: r => if x.2.1 = f then (if x.2.2 = k then (x.1, e, x.2.2) :: r else (f, e, k) :: x :: r) else (f, e, k) :: x :: r
  else m
/-- rewrite, the piece put already -/
def ar_p1 (fi en : Nat) : List (Nat × Nat × Nat) → List (Nat × Nat × Nat) → List (Nat × Nat × Nat)
  | [], m => m
  | x :: r, m => ar_p1 fi en r (ar_emit (ar_emit m x.1 (min x.2.1 fi) x.2.2) (max x.1 en) x.2.1 x.2.2)
/-- rewrite, the piece not put yet -/
def ar_p0 (fi en k : Nat) : List (Nat × Nat × Nat) → List (Nat × Nat × Nat) → List (Nat × Nat × Nat)
  | [], m => ar_emit m fi en k
  | x :: r, m => if x.2.1 ≤ fi then ar_p0 fi en k r (ar_emit (ar_emit m x.1 (min x.2.1 fi) x.2.2) (max x.1 en) x.2.1 x.2.2)
    else ar_p1 fi en r (ar_emit (ar_emit (ar_emit m x.1 (min x.2.1 fi) x.2.2) fi en k) (max x.1 en) x.2.1 x.2.2)
/-- protect: every kind becomes the last token -/
def ar_pr (N fi en : Nat) : List (Nat × Nat × Nat) → List (Nat × Nat × Nat) → List (Nat × Nat × Nat)
  | [], m => m
  | x :: r, m => ar_pr N fi en r (ar_emit (ar_emit (ar_emit m x.1 (min x.2.1 fi) x.2.2) (max x.1 fi) (min x.2.1 en) (N - 1)) (max x.1 en) x.2.1 x.2.2)
def ar_ch (N fi en : Nat) : List (Nat × Nat × Nat) → Nat → Nat
  | [], n => n
  | x :: r, n => ar_ch N fi en r (if x.2.2 = N - 1 then n else n + (min x.2.1 en - max x.1 fi))
def ar_mi (fi en : Nat) : List (Nat × Nat × Nat) → Nat → Nat
  | [], n => n
  | x :: r, n => ar_mi fi en r (n + (min x.2.1 en - max x.1 fi))
def ar_srt : Nat → List (Nat × Nat × Nat) → Bool
  | _, [] => true
  | q, x :: r => decide (q ≤ x.1) && ar_srt x.2.1 r
def ar_lf : List (Nat × Nat × Nat) → Nat → Nat → Nat
  | [], pg, mo => max mo (64 - pg)
  | x :: r, pg, mo => ar_lf r x.2.1 (max mo (x.1 - pg))
def ar_room (n : Nat) : List (Nat × Nat × Nat) → Nat → Option Nat
  | [], pg => if 64 < pg + n then none else some pg
  | x :: r, pg => if x.2.1 ≤ pg then ar_room n r pg else if x.1 < pg + n then ar_room n r x.2.1 else some pg
def ar_nw (pg : Nat) : List (Nat × Nat × Nat) → Option Nat
  | [] => none
  | x :: r => if x.2.1 ≤ pg then ar_nw pg r else some (max x.1 pg)
/-- find: n rounds are left, low, high + 1 -/
def ar_fd (l : List (Nat × Nat × Nat)) (pg : Nat) : Nat → Nat → Nat → Option Nat
  | 0, _, _ => none
  | n + 1, lo, h1 => if lo < h1 then
      (if pg < (l.getD ((lo + h1 - 1) / 2) (0, 0, 0)).2.1 then
        (if (l.getD ((lo + h1 - 1) / 2) (0, 0, 0)).1 ≤ pg then some ((lo + h1 - 1) / 2) else ar_fd l pg n lo ((lo + h1 - 1) / 2))
       else ar_fd l pg n ((lo + h1 - 1) / 2 + 1) h1)
    else none
def ar_al (en : Nat) : List (Nat × Nat × Nat) → Nat → Bool
  | [], pg => decide (en ≤ pg)
  | x :: r, pg => if en ≤ pg then true else if pg < x.1 then false else ar_al en r x.2.1

theorem ar_b8 : ∀ t, t < 128 → (nI t).toInt8.toInt32 = nI t := by decide +kernel
theorem ar_v8 {t : Nat} (h : t < 128) : vp_nar .byte (nI t) = nI t := by rw [vp_nar_byte, ar_b8 t h]
theorem ar_mk_cg {kn : Nat → Nat} {N : Nat} {a4 a5 a6 b4 b5 b6 : Nat → Int32} : ∀ {m : List (Nat × Nat × Nat)}, ar_mk kn N a4 a5 a6 m → (∀ j, j < m.length → b4 j = a4 j ∧ b5 j = a5 j ∧ b6 j = a6 j) → ar_mk kn N b4 b5 b6 m
  | [], _, _ => trivial
  | x :: r, h, e => by
    obtain ⟨h1, h2, h3, h4, h5, h6, h7⟩ := h
    obtain ⟨e1, e2, e3⟩ := e r.length (Nat.lt_succ_self _)
    exact ⟨e1.trans h1, e2.trans h2, e3.trans h3, h4, h5, h6, ar_mk_cg h7 (fun j hj => e j (Nat.lt_succ_of_lt hj))⟩
theorem ar_at_cg {kn : Nat → Nat} {N : Nat} {a1 a2 a3 b1 b2 b3 : Nat → Int32} : ∀ {l : List (Nat × Nat × Nat)} {i : Nat}, ar_at kn N a1 a2 a3 i l → (∀ j, j < i + l.length → b1 j = a1 j ∧ b2 j = a2 j ∧ b3 j = a3 j) → ar_at kn N b1 b2 b3 i l
  | [], _, _, _ => trivial
  | x :: r, i, h, e => by
    obtain ⟨h1, h2, h3, h4, h5, h6, h7⟩ := h
    have L : (x :: r).length = r.length + 1 := rfl
    obtain ⟨e1, e2, e3⟩ := e i (by omega)
    exact ⟨e1.trans h1, e2.trans h2, e3.trans h3, h4, h5, h6, ar_at_cg h7 (fun j hj => e j (by omega))⟩
theorem ar_at_mono {kn : Nat → Nat} {N M : Nat} (hN : N ≤ M) {a1 a2 a3 : Nat → Int32} : ∀ {l : List (Nat × Nat × Nat)} {i : Nat}, ar_at kn N a1 a2 a3 i l → ar_at kn M a1 a2 a3 i l
  | [], _, _ => trivial
  | x :: r, i, h => by
    obtain ⟨h1, h2, h3, h4, h5, h6, h7⟩ := h
    exact ⟨h1, h2, h3, h4, h5, by omega, ar_at_mono hN h7⟩
theorem ar_S_mono {kn : Nat → Nat} {N M : Nat} (hN : N ≤ M) {l : List (Nat × Nat × Nat)} {u : St2} (h : ar_S kn N l u) : ar_S kn M l u := ⟨h.1, h.2.1, ar_at_mono hN h.2.2⟩
theorem ar_at_drop {kn : Nat → Nat} {N : Nat} {a1 a2 a3 : Nat → Int32} : ∀ {j i : Nat} {l : List (Nat × Nat × Nat)}, ar_at kn N a1 a2 a3 i l → j ≤ l.length → ar_at kn N a1 a2 a3 (i + j) (l.drop j)
  | 0, _, _, h, _ => h
  | j + 1, i, [], _, hj => absurd hj (Nat.not_succ_le_zero j)
  | j + 1, i, x :: r, h, hj => by
    have t := ar_at_drop (j := j) h.2.2.2.2.2.2 (Nat.le_of_succ_le_succ hj)
    rw [show i + 1 + j = i + (j + 1) by omega] at t
    exact t
theorem ar_at_get {kn : Nat → Nat} {N : Nat} {a1 a2 a3 : Nat → Int32} : ∀ {j i : Nat} {l : List (Nat × Nat × Nat)}, ar_at kn N a1 a2 a3 i l → j < l.length → a1 (i + j) = nI (l.getD j (0, 0, 0)).1 ∧ a2 (i + j) = nI (l.getD j (0, 0, 0)).2.1 ∧ a3 (i + j) = nI (kn (l.getD j (0, 0, 0)).2.2) ∧ (l.getD j (0, 0, 0)).1 ≤ 64 ∧ (l.getD j (0, 0, 0)).2.1 ≤ 64 ∧ (l.getD j (0, 0, 0)).2.2 < N
  | j, i, [], _, hj => absurd hj (Nat.not_lt_zero j)
  | 0, i, x :: r, h, _ => ⟨h.1, h.2.1, h.2.2.1, h.2.2.2.1, h.2.2.2.2.1, h.2.2.2.2.2.1⟩
  | j + 1, i, x :: r, h, hj => by
    have t := ar_at_get (j := j) h.2.2.2.2.2.2 (Nat.lt_of_succ_lt_succ hj)
    rw [show i + 1 + j = i + (j + 1) by omega] at t
    exact t
theorem ar_mk_at {kn : Nat → Nat} {N : Nat} {a4 a5 a6 : Nat → Int32} : ∀ {m r : List (Nat × Nat × Nat)}, ar_mk kn N a4 a5 a6 m → ar_at kn N a4 a5 a6 m.length r → ar_at kn N a4 a5 a6 0 (m.reverseAux r)
  | [], r, _, h => h
  | x :: m, r, h, g => by
    obtain ⟨h1, h2, h3, h4, h5, h6, h7⟩ := h
    exact ar_mk_at (m := m) (r := x :: r) h7 ⟨h1, h2, h3, h4, h5, h6, g⟩
theorem ar_mk_n {kn : Nat → Nat} {N : Nat} (hK : ar_K kn N) {a4 a5 a6 : Nat → Int32} : ∀ {m : List (Nat × Nat × Nat)}, ar_mk kn N a4 a5 a6 m → ∀ j, j < m.length → vp_nar .byte (a4 j) = a4 j ∧ vp_nar .byte (a5 j) = a5 j ∧ vp_nar .byte (a6 j) = a6 j
  | [], _, j, hj => absurd hj (Nat.not_lt_zero j)
  | x :: r, h, j, hj => by
    obtain ⟨h1, h2, h3, h4, h5, h6, h7⟩ := h
    by_cases e : j = r.length
    · rw [e, h1, h2, h3]
      exact ⟨ar_v8 (by omega), ar_v8 (by omega), ar_v8 (hK.1 _ h6)⟩
    · exact ar_mk_n hK h7 j (by have : j < r.length + 1 := hj; omega)
theorem ar_emit_len (m : List (Nat × Nat × Nat)) (f e k : Nat) : m.length ≤ (ar_emit m f e k).length := by
  unfold ar_emit
  split
  · cases m with
    | nil => exact Nat.zero_le _
    | cons x r =>
      dsimp only
      split
      · split
        · exact Nat.le_refl _
        · exact Nat.le_succ _
      · exact Nat.le_succ _
  · exact Nat.le_refl _
theorem ar_p1_len {fi en : Nat} : ∀ (r m : List (Nat × Nat × Nat)), m.length ≤ (ar_p1 fi en r m).length
  | [], m => Nat.le_refl _
  | x :: r, m => Nat.le_trans (Nat.le_trans (ar_emit_len _ _ _ _) (ar_emit_len _ _ _ _)) (ar_p1_len r _)
theorem ar_p0_len {fi en k : Nat} : ∀ (r m : List (Nat × Nat × Nat)), m.length ≤ (ar_p0 fi en k r m).length
  | [], m => ar_emit_len _ _ _ _
  | x :: r, m => by
    unfold ar_p0
    split
    · exact Nat.le_trans (Nat.le_trans (ar_emit_len _ _ _ _) (ar_emit_len _ _ _ _)) (ar_p0_len r _)
    · exact Nat.le_trans (Nat.le_trans (Nat.le_trans (ar_emit_len _ _ _ _) (ar_emit_len _ _ _ _)) (ar_emit_len _ _ _ _)) (ar_p1_len r _)
theorem ar_pr_len {N fi en : Nat} : ∀ (r m : List (Nat × Nat × Nat)), m.length ≤ (ar_pr N fi en r m).length
  | [], m => Nat.le_refl _
  | x :: r, m => Nat.le_trans (Nat.le_trans (Nat.le_trans (ar_emit_len _ _ _ _) (ar_emit_len _ _ _ _)) (ar_emit_len _ _ _ _)) (ar_pr_len r _)
end
section
theorem ar_least {post : Int32 → Prop} {x y : Int32} {a b : Nat} (hx : x = nI a) (hy : y = nI b) (ha : a ≤ 64) (hb : b ≤ 64) (H : post (nI (min a b))) : wpX_least post () x y := by
  subst hx hy
  refine pk_le b a (fun h => ?_) (fun h => ?_)
  · rw [Nat.min_eq_right h] at H
    exact H
  · rw [Nat.min_eq_left (by omega)] at H
    exact H
theorem ar_great {post : Int32 → Prop} {x y : Int32} {a b : Nat} (hx : x = nI a) (hy : y = nI b) (ha : a ≤ 64) (hb : b ≤ 64) (H : post (nI (max a b))) : wpX_greatest post () x y := by
  subst hx hy
  refine pk_le a b (fun h => ?_) (fun h => ?_)
  · rw [Nat.max_eq_right h] at H
    exact H
  · rw [Nat.max_eq_left (by omega)] at H
    exact H
theorem ar_app {post : St2 → Prop} {kn : Nat → Nat} {N : Nat} (hK : ar_K kn N) {m : List (Nat × Nat × Nat)} {f e k : Nat} {c : Int32} {a1 a2 a3 a4 a5 a6 : Nat → Int32}
    (hm : ar_mk kn N a4 a5 a6 m) (hf : f ≤ 64) (he : e ≤ 64) (hk : k < N) (hl : m.length < 48)
    (H : ∀ b4 b5 b6, ar_mk kn N b4 b5 b6 ((f, e, k) :: m) → post (c, nI (m.length + 1), a1, a2, a3, b4, b5, b6)) :
    wX_emit_47 post (nI f) (nI e) (nI (kn k)) c (nI m.length) a1 a2 a3 a4 a5 a6 := by
  unfold wX_emit_47 wX_emit_48
  rw [nI_clamp (show m.length < 2 ^ 31 by omega), ar_b8 f (by omega), ar_b8 e (by omega), ar_b8 _ (hK.1 k hk)]
  exact br_t rfl ⟨pk_in _ 48 hl, nm_e ⟨pk_in _ 48 hl, nm_e ⟨pk_in _ 48 hl, nm_e (nm_r (nI_1 _) (H _ _ _ ⟨pk_us, pk_us, pk_us, hf, he, hk, ar_mk_cg hm (fun j hj => ⟨pk_un (by omega), pk_un (by omega), pk_un (by omega)⟩)⟩))⟩⟩⟩
theorem ar_emit_ok {post : St2 → Prop} {kn : Nat → Nat} {N : Nat} (hK : ar_K kn N) {m : List (Nat × Nat × Nat)} {f e k : Nat} {c d x y z : Int32} {a1 a2 a3 a4 a5 a6 : Nat → Int32}
    (hm : ar_mk kn N a4 a5 a6 m) (hf : f ≤ 64) (he : e ≤ 64) (hk : k < N) (hl : (ar_emit m f e k).length ≤ 48) (hd : d = nI m.length) (hx : x = nI f) (hy : y = nI e) (hz : z = nI (kn k))
    (H : ∀ b4 b5 b6, ar_mk kn N b4 b5 b6 (ar_emit m f e k) → post (c, nI (ar_emit m f e k).length, a1, a2, a3, b4, b5, b6)) :
    wpX_emit post (c, d, a1, a2, a3, a4, a5, a6) x y z := by
  subst hd hx hy hz
  refine pk_lt f e (fun h => ?_) (fun h => ?_)
  · cases m with
    | nil =>
      have E : ar_emit [] f e k = [(f, e, k)] := if_pos h
      rw [E] at H
      exact br_t (by decide) (ar_app hK hm hf he hk (by decide) H)
    | cons w r =>
      have E0 : nI (w :: r).length - 1 = nI r.length := nI_pred _
      have L0 : r.length + 1 ≤ 48 := Nat.le_trans (ar_emit_len (w :: r) f e k) hl
      have hc : (nI r.length).toNatClampNeg = r.length := nI_clamp (by omega)
      have hm' := hm
      obtain ⟨h1, h2, h3, h4, h5, h6, h7⟩ := hm'
      have k1 := hK.1 _ h6
      have k2 := hK.1 _ hk
      refine br_f (nI_nle (Nat.succ_pos _) (show r.length + 1 < 2 ^ 31 by omega)) ?_
      rw [E0, hc, h2, h3]
      refine ⟨pk_in r.length 48 (by omega), pk_eq w.2.1 f (fun g => ⟨pk_in r.length 48 (by omega), pk_eq (kn w.2.2) (kn k) (fun g2 => ?_) (fun g2 => ?_)⟩) (fun g => ?_)⟩
      · have gk : w.2.2 = k := hK.2 _ _ h6 hk g2
        have E : ar_emit (w :: r) f e k = (w.1, e, w.2.2) :: r := (if_pos h).trans ((if_pos g).trans (if_pos gk))
        rw [E] at H
        unfold wX_emit_48
        rw [E0, hc, ar_b8 e (by omega)]
        exact br_f (by decide) ⟨pk_in r.length 48 (by omega), nm_e (H _ _ _ ⟨h1, pk_us, h3, h4, he, h6, ar_mk_cg h7 (fun j hj => ⟨rfl, pk_un (by omega), rfl⟩)⟩)⟩
      · have gk : ¬ w.2.2 = k := fun t => g2 (by rw [t])
        have E : ar_emit (w :: r) f e k = (f, e, k) :: w :: r := (if_pos h).trans ((if_pos g).trans (if_neg gk))
        rw [E] at H hl
        exact ar_app hK hm hf he hk hl H
      · have E : ar_emit (w :: r) f e k = (f, e, k) :: w :: r := (if_pos h).trans (if_neg g)
        rw [E] at H hl
        exact ar_app hK hm hf he hk hl H
  · have E : ar_emit m f e k = m := if_neg (by omega)
    rw [E] at H
    exact H _ _ _ hm
theorem ar_commit_ok {post : Int32 → St2 → Prop} {kn : Nat → Nat} {N : Nat} (hK : ar_K kn N) {m : List (Nat × Nat × Nat)} {c d : Int32} {a1 a2 a3 a4 a5 a6 : Nat → Int32}
    (hm : ar_mk kn N a4 a5 a6 m) (hl : m.length ≤ 48) (hd : d = nI m.length)
    (H1 : m.length ≤ 20 → ∀ u : St2, ar_S kn N m.reverse u → post 1 u) (H0 : 20 < m.length → post 0 (c, d, a1, a2, a3, a4, a5, a6)) :
    wpX_commit post (c, d, a1, a2, a3, a4, a5, a6) := by
  subst hd
  refine pk_le m.length 20 (fun h => ?_) H0
  refine pk_loop (fun n i (s : (Nat → Int32) × (Nat → Int32) × (Nat → Int32)) => wX_commit_21 post (nI m.length) (nI m.length) n (nI i) s.1 s.2.1 s.2.2 a4 a5 a6) (fun i s => ∀ j, j < i → s.1 j = a4 j ∧ s.2.1 j = a5 j ∧ s.2.2 j = a6 j) m.length 0 (a1, a2, a3) (Nat.zero_le _) (fun j hj => absurd hj (Nat.not_lt_zero j)) ?_ ?_
  · intro n s hs
    refine pk_le m.length m.length (fun _ => H1 h _ ⟨?_, ?_, ?_⟩) (fun z => absurd z (Nat.lt_irrefl _))
    · rw [List.length_reverse]
    · rw [List.length_reverse]
      exact h
    · refine ar_at_cg (ar_mk_at (r := []) hm trivial) (fun j hj => hs j ?_)
      have t : j < 0 + m.reverse.length := hj
      rw [List.length_reverse] at t
      omega
  · intro n i s hi hs hw
    obtain ⟨n1, n2, n3⟩ := ar_mk_n hK hm i hi
    refine pk_le m.length i (fun z => absurd z (by omega)) (fun _ => ?_)
    rw [nI_clamp (show i < 2 ^ 31 by omega), n1, n2, n3]
    refine ⟨pk_in i 48 (by omega), pk_in i 20 (by omega), nm_e ⟨pk_in i 48 (by omega), pk_in i 20 (by omega), nm_e ⟨pk_in i 48 (by omega), pk_in i 20 (by omega), nm_e (nm_r (nI_1 i) (hw (upd s.1 i (a4 i), upd s.2.1 i (a5 i), upd s.2.2 i (a6 i)) (fun j hj => ?_)))⟩⟩⟩
    by_cases e : j = i
    · rw [e]
      exact ⟨pk_us, pk_us, pk_us⟩
    · obtain ⟨e1, e2, e3⟩ := hs j (by omega)
      exact ⟨(pk_un e).trans e1, (pk_un e).trans e2, (pk_un e).trans e3⟩
theorem ar_139 {post : Int32 → St2 → Prop} {kn : Nat → Nat} {N : Nat} (hK : ar_K kn N) {l m : List (Nat × Nat × Nat)} {a1 a2 a3 a4 a5 a6 : Nat → Int32}
    (hm : ar_mk kn N a4 a5 a6 m) (hl : m.length ≤ 48) (hL : l.length ≤ 20) (ha : ar_at kn N a1 a2 a3 0 l)
    (H1 : m.length ≤ 20 → ∀ u : St2, ar_S kn N m.reverse u → post 1 u) (H0 : 20 < m.length → ∀ u : St2, ar_S kn N l u → post 0 u) :
    wX_rewrite_139 post (nI l.length) (nI m.length) a1 a2 a3 a4 a5 a6 := by
  unfold wX_rewrite_139
  refine ar_commit_ok hK hm hl rfl (fun h u hu => ?_) (fun h => ?_)
  · obtain ⟨c, d, b1, b2, b3, b4, b5, b6⟩ := u
    exact ⟨rfl, H1 h _ hu⟩
  · exact ⟨rfl, H0 h _ ⟨rfl, hL, ha⟩⟩
end
section
theorem ar_88 {post : Int32 → St2 → Prop} {J20 : Int32 → Int32 → Int32 → Int32 → (Nat → Int32) → (Nat → Int32) → (Nat → Int32) → (Nat → Int32) → (Nat → Int32) → (Nat → Int32) → Prop} {x1 x3 x4 c : Int32} {kn : Nat → Nat} {N : Nat} (hK : ar_K kn N) {m : List (Nat × Nat × Nat)} {x : Nat × Nat × Nat} {i en : Nat} {a1 a2 a3 a4 a5 a6 : Nat → Int32}
    (hm : ar_mk kn N a4 a5 a6 m) (hi : i < 20) (hen : en ≤ 64) (h1 : a1 i = nI x.1) (h2 : a2 i = nI x.2.1) (h3 : a3 i = nI (kn x.2.2)) (h4 : x.1 ≤ 64) (h5 : x.2.1 ≤ 64) (h6 : x.2.2 < N) (hl : (ar_emit m (max x.1 en) x.2.1 x.2.2).length ≤ 48)
    (H : ∀ b4 b5 b6, ar_mk kn N b4 b5 b6 (ar_emit m (max x.1 en) x.2.1 x.2.2) → J20 x4 (nI (i + 1)) c (nI (ar_emit m (max x.1 en) x.2.1 x.2.2).length) a1 a2 a3 b4 b5 b6) :
    wX_rewrite_88 post J20 x1 (nI en) x3 x4 (nI i) c (nI m.length) a1 a2 a3 a4 a5 a6 := by
  unfold wX_rewrite_88
  rw [nI_clamp (show i < 2 ^ 31 by omega), h1, h2, h3]
  exact ⟨pk_in i 20 hi, ar_great rfl rfl h4 hen ⟨pk_in i 20 hi, pk_in i 20 hi, ar_emit_ok hK hm (by omega) h5 h6 hl rfl rfl rfl rfl (fun b4 b5 b6 hb => nm_r (nI_1 i) (H b4 b5 b6 hb))⟩⟩
theorem ar_p1_loop {post : Int32 → St2 → Prop} {kn : Nat → Nat} {N : Nat} (hK : ar_K kn N) {fi en cnt : Nat} {x3 : Int32} {a1 a2 a3 : Nat → Int32} (hfi : fi ≤ 64) (hen : en ≤ 64) (hcnt : cnt ≤ 20) :
    ∀ (r : List (Nat × Nat × Nat)) (i : Nat) (m : List (Nat × Nat × Nat)) (a4 a5 a6 : Nat → Int32), ar_at kn N a1 a2 a3 i r → i + r.length = cnt → ar_mk kn N a4 a5 a6 m → (ar_p1 fi en r m).length ≤ 48 →
    (∀ b4 b5 b6, ar_mk kn N b4 b5 b6 (ar_p1 fi en r m) → wX_rewrite_139 post (nI cnt) (nI (ar_p1 fi en r m).length) a1 a2 a3 b4 b5 b6) →
    wX_rewrite_20 post (nI fi) (nI en) x3 (r.length + 1) 1 (nI i) (nI cnt) (nI m.length) a1 a2 a3 a4 a5 a6 := by
  intro r
  induction r with
  | nil =>
    intro i m a4 a5 a6 ha hc hm hl H
    have hc' : i + 0 = cnt := hc
    exact pk_le cnt i (fun _ => br_f (by decide) (H _ _ _ hm)) (fun z => absurd z (by omega))
  | cons x r ih =>
    intro i m a4 a5 a6 ha hc hm hl H
    obtain ⟨h1, h2, h3, h4, h5, h6, h7⟩ := ha
    have hc' : i + (r.length + 1) = cnt := hc
    have hi : i < 20 := by omega
    have l1 : (ar_emit (ar_emit m x.1 (min x.2.1 fi) x.2.2) (max x.1 en) x.2.1 x.2.2).length ≤ 48 := Nat.le_trans (ar_p1_len r _) hl
    have l2 : (ar_emit m x.1 (min x.2.1 fi) x.2.2).length ≤ 48 := Nat.le_trans (ar_emit_len _ _ _ _) l1
    refine pk_le cnt i (fun z => absurd z (by omega)) (fun _ => ?_)
    rw [nI_clamp (show i < 2 ^ 31 by omega), h1, h2, h3]
    exact ⟨pk_in i 20 hi, ar_least rfl rfl h5 hfi ⟨pk_in i 20 hi, pk_in i 20 hi, ar_emit_ok hK hm h4 (by omega) h6 l2 rfl rfl rfl rfl (fun b4 b5 b6 hb => br_f (by decide) (ar_88 hK hb hi hen h1 h2 h3 h4 h5 h6 l1 (fun d4 d5 d6 hd => ih (i + 1) _ d4 d5 d6 h7 (by omega) hd hl H)))⟩⟩
theorem ar_p0_loop {post : Int32 → St2 → Prop} {kn : Nat → Nat} {N : Nat} (hK : ar_K kn N) {fi en cnt k : Nat} {a1 a2 a3 : Nat → Int32} (hfi : fi ≤ 64) (hen : en ≤ 64) (hcnt : cnt ≤ 20) (hk : k < N) :
    ∀ (r : List (Nat × Nat × Nat)) (i : Nat) (m : List (Nat × Nat × Nat)) (a4 a5 a6 : Nat → Int32), ar_at kn N a1 a2 a3 i r → i + r.length = cnt → ar_mk kn N a4 a5 a6 m → (ar_p0 fi en k r m).length ≤ 48 →
    (∀ b4 b5 b6, ar_mk kn N b4 b5 b6 (ar_p0 fi en k r m) → wX_rewrite_139 post (nI cnt) (nI (ar_p0 fi en k r m).length) a1 a2 a3 b4 b5 b6) →
    wX_rewrite_20 post (nI fi) (nI en) (nI (kn k)) (r.length + 1) 0 (nI i) (nI cnt) (nI m.length) a1 a2 a3 a4 a5 a6 := by
  intro r
  induction r with
  | nil =>
    intro i m a4 a5 a6 ha hc hm hl H
    have hc' : i + 0 = cnt := hc
    exact pk_le cnt i (fun _ => br_t rfl (ar_emit_ok hK hm hfi hen hk hl rfl rfl rfl rfl (fun b4 b5 b6 hb => H b4 b5 b6 hb))) (fun z => absurd z (by omega))
  | cons x r ih =>
    intro i m a4 a5 a6 ha hc hm hl H
    obtain ⟨h1, h2, h3, h4, h5, h6, h7⟩ := ha
    have hc' : i + (r.length + 1) = cnt := hc
    have hi : i < 20 := by omega
    refine pk_le cnt i (fun z => absurd z (by omega)) (fun _ => ?_)
    rw [nI_clamp (show i < 2 ^ 31 by omega), h1, h2, h3]
    by_cases g : x.2.1 ≤ fi
    · have E : ar_p0 fi en k (x :: r) m = ar_p0 fi en k r (ar_emit (ar_emit m x.1 (min x.2.1 fi) x.2.2) (max x.1 en) x.2.1 x.2.2) := if_pos g
      rw [E] at hl H
      have l1 : (ar_emit (ar_emit m x.1 (min x.2.1 fi) x.2.2) (max x.1 en) x.2.1 x.2.2).length ≤ 48 := Nat.le_trans (ar_p0_len r _) hl
      have l2 : (ar_emit m x.1 (min x.2.1 fi) x.2.2).length ≤ 48 := Nat.le_trans (ar_emit_len _ _ _ _) l1
      exact ⟨pk_in i 20 hi, ar_least rfl rfl h5 hfi ⟨pk_in i 20 hi, pk_in i 20 hi, ar_emit_ok hK hm h4 (by omega) h6 l2 rfl rfl rfl rfl (fun b4 b5 b6 hb => br_t rfl ⟨pk_in i 20 hi, br_t (by rw [h2]; exact nI_le g (by omega)) (ar_88 hK hb hi hen h1 h2 h3 h4 h5 h6 l1 (fun d4 d5 d6 hd => ih (i + 1) _ d4 d5 d6 h7 (by omega) hd hl H))⟩)⟩⟩
    · have E : ar_p0 fi en k (x :: r) m = ar_p1 fi en r (ar_emit (ar_emit (ar_emit m x.1 (min x.2.1 fi) x.2.2) fi en k) (max x.1 en) x.2.1 x.2.2) := if_neg g
      rw [E] at hl H
      have l1 : (ar_emit (ar_emit (ar_emit m x.1 (min x.2.1 fi) x.2.2) fi en k) (max x.1 en) x.2.1 x.2.2).length ≤ 48 := Nat.le_trans (ar_p1_len r _) hl
      have l2 : (ar_emit (ar_emit m x.1 (min x.2.1 fi) x.2.2) fi en k).length ≤ 48 := Nat.le_trans (ar_emit_len _ _ _ _) l1
      have l3 : (ar_emit m x.1 (min x.2.1 fi) x.2.2).length ≤ 48 := Nat.le_trans (ar_emit_len _ _ _ _) l2
      exact ⟨pk_in i 20 hi, ar_least rfl rfl h5 hfi ⟨pk_in i 20 hi, pk_in i 20 hi, ar_emit_ok hK hm h4 (by omega) h6 l3 rfl rfl rfl rfl (fun b4 b5 b6 hb => br_t rfl ⟨pk_in i 20 hi, br_f (by rw [h2]; exact nI_ge (by omega) (by omega)) (ar_emit_ok hK hb hfi hen hk l2 rfl rfl rfl rfl (fun c4 c5 c6 hc => ar_88 hK hc hi hen h1 h2 h3 h4 h5 h6 l1 (fun d4 d5 d6 hd => ar_p1_loop hK hfi hen hcnt r (i + 1) _ d4 d5 d6 h7 (by omega) hd hl H)))⟩)⟩⟩
theorem ar_rw_put {post : Int32 → St2 → Prop} {kn : Nat → Nat} {N : Nat} (hK : ar_K kn N) {l : List (Nat × Nat × Nat)} {u : St2} (hS : ar_S kn N l u) {fi en k : Nat} {p0 p1 p2 : Int32} (hp0 : p0 = nI fi) (hp1 : p1 = nI en) (hp2 : p2 = nI (kn k)) (hfi : fi ≤ 64) (hen : en ≤ 64) (hk : k < N) (hl : (ar_p0 fi en k l []).length ≤ 48)
    (H1 : (ar_p0 fi en k l []).length ≤ 20 → ∀ v : St2, ar_S kn N (ar_p0 fi en k l []).reverse v → post 1 v) (H0 : 20 < (ar_p0 fi en k l []).length → ∀ v : St2, ar_S kn N l v → post 0 v) :
    wpX_rewrite post u p0 p1 p2 := by
  obtain ⟨c, d, a1, a2, a3, a4, a5, a6⟩ := u
  obtain ⟨hc, hL, ha⟩ := hS
  dsimp only at hc ha
  subst hc hp0 hp1 hp2
  have kb := hK.1 k hk
  refine br_f (fun t => ?_) ⟨l.length + 1, ar_p0_loop hK hfi hen hL hk l 0 [] a4 a5 a6 ha (Nat.zero_add _) trivial hl (fun b4 b5 b6 hb => ar_139 hK hb hl hL ha H1 H0)⟩
  have t2 := nI_pos (n := kn k) (by omega)
  rw [t] at t2
  exact t2 (by decide)
theorem ar_rw_free {post : Int32 → St2 → Prop} {kn : Nat → Nat} {N : Nat} (hK : ar_K kn N) {l : List (Nat × Nat × Nat)} {u : St2} (hS : ar_S kn N l u) {fi en : Nat} {p0 p1 : Int32} (hp0 : p0 = nI fi) (hp1 : p1 = nI en) (hfi : fi ≤ 64) (hen : en ≤ 64) (hl : (ar_p1 fi en l []).length ≤ 48)
    (H1 : (ar_p1 fi en l []).length ≤ 20 → ∀ v : St2, ar_S kn N (ar_p1 fi en l []).reverse v → post 1 v) (H0 : 20 < (ar_p1 fi en l []).length → ∀ v : St2, ar_S kn N l v → post 0 v) :
    wpX_rewrite post u p0 p1 (-1) := by
  obtain ⟨c, d, a1, a2, a3, a4, a5, a6⟩ := u
  obtain ⟨hc, hL, ha⟩ := hS
  dsimp only at hc ha
  subst hc hp0 hp1
  exact br_t rfl ⟨l.length + 1, ar_p1_loop hK hfi hen hL l 0 [] a4 a5 a6 ha (Nat.zero_add _) trivial hl (fun b4 b5 b6 hb => ar_139 hK hb hl hL ha H1 H0)⟩
theorem ar_mi_loop {post : Int32 → Prop} {kn : Nat → Nat} {N : Nat} {fi en cnt : Nat} {d : Int32} {a1 a2 a3 a4 a5 a6 : Nat → Int32} (hfi : fi ≤ 64) (hen : en ≤ 64) (hcnt : cnt ≤ 20) :
    ∀ (r : List (Nat × Nat × Nat)) (i n : Nat), ar_at kn N a1 a2 a3 i r → i + r.length = cnt → post (nI (ar_mi fi en r n)) →
    wX_mappedIn_5 post (nI fi) (nI en) (nI cnt) d a1 a2 a3 a4 a5 a6 (r.length + 1) (nI n) (nI i) := by
  intro r
  induction r with
  | nil =>
    intro i n ha hc H
    have hc' : i + 0 = cnt := hc
    exact pk_le cnt i (fun _ => H) (fun z => absurd z (by omega))
  | cons x r ih =>
    intro i n ha hc H
    obtain ⟨h1, h2, h3, h4, h5, h6, h7⟩ := ha
    have hc' : i + (r.length + 1) = cnt := hc
    have hi : i < 20 := by omega
    refine pk_le cnt i (fun z => absurd z (by omega)) (fun _ => ?_)
    rw [nI_clamp (show i < 2 ^ 31 by omega), h1, h2]
    refine ⟨pk_in i 20 hi, ar_great rfl rfl h4 hfi ⟨pk_in i 20 hi, ar_least rfl rfl h5 hen (pk_le (min x.2.1 en) (max x.1 fi) (fun z => nm_r ?_ (nm_r (nI_1 i) (ih (i + 1) (n + (min x.2.1 en - max x.1 fi)) h7 (by omega) H))) (fun z => nm_r ?_ (nm_r (nI_1 i) (ih (i + 1) (n + (min x.2.1 en - max x.1 fi)) h7 (by omega) H))))⟩⟩
    · rw [Nat.sub_eq_zero_of_le z]
      exact nI_add n 0
    · rw [pk_sub (by omega), nI_add]
theorem ar_mi_ok {post : Int32 → Prop} {kn : Nat → Nat} {N : Nat} {l : List (Nat × Nat × Nat)} {u : St2} (hS : ar_S kn N l u) {fi en : Nat} {p0 p1 : Int32} (hp0 : p0 = nI fi) (hp1 : p1 = nI en) (hfi : fi ≤ 64) (hen : en ≤ 64) (H : post (nI (ar_mi fi en l 0))) : wpX_mappedIn post u p0 p1 := by
  obtain ⟨c, d, a1, a2, a3, a4, a5, a6⟩ := u
  obtain ⟨hc, hL, ha⟩ := hS
  dsimp only at hc ha
  subst hc hp0 hp1
  exact ⟨l.length + 1, ar_mi_loop hfi hen hL l 0 0 ha (Nat.zero_add _) H⟩
theorem ar_proper {post : Int32 → Prop} {f n : Nat} {x y : Int32} (hx : x = nI f) (hy : y = nI n) (h1 : f < 64) (h2 : 1 ≤ n) (h3 : f + n ≤ 64) (H : post 1) : wpX_isProper post () x y := by
  subst hx hy
  exact br_f (nI_pos (by omega)) (pk_le 64 f (fun z => absurd z (by omega)) (fun _ => pk_lt n 1 (fun z => absurd z (by omega)) (fun _ => pk_lt (64 - f) n (fun z => absurd z (by omega)) (fun _ => H) (pk_sub (a := 64) (by omega)))))
theorem ar_kind {post : Int32 → Prop} {k : Nat} {x : Int32} (hx : x = nI k) (h : k < 128) (H : post 1) : wpX_isKind post () x := by
  subst hx
  exact br_f (nI_pos (by omega)) (pk_lt 127 k (fun z => absurd z (by omega)) (fun _ => H))
theorem ar_map_ok {post : Int32 → St2 → Prop} {kn : Nat → Nat} {N : Nat} (hK : ar_K kn N) {l : List (Nat × Nat × Nat)} {u : St2} (hS : ar_S kn N l u) {fi n k : Nat} {p0 p1 p2 : Int32} (hp0 : p0 = nI fi) (hp1 : p1 = nI n) (hp2 : p2 = nI (kn k)) (h1 : fi < 64) (h2 : 1 ≤ n) (h3 : fi + n ≤ 64) (hk : k < N) (hl : (ar_p0 fi (fi + n) k l []).length ≤ 48)
    (H1 : (ar_p0 fi (fi + n) k l []).length ≤ 20 → ∀ v : St2, ar_S kn N (ar_p0 fi (fi + n) k l []).reverse v → post (nI (ar_mi fi (fi + n) l 0)) v) (H0 : 20 < (ar_p0 fi (fi + n) k l []).length → ∀ v : St2, ar_S kn N l v → post (-2) v) :
    wpX_map post u p0 p1 p2 := by
  obtain ⟨c, d, a1, a2, a3, a4, a5, a6⟩ := u
  subst hp0 hp1 hp2
  unfold wpX_map
  refine ar_proper rfl rfl h1 h2 h3 (br_f (by decide) (ar_kind rfl (hK.1 k hk) (br_f (by decide) (ar_mi_ok hS rfl (nI_add _ _) (by omega) h3 (ar_rw_put hK hS rfl (nI_add _ _) rfl (by omega) h3 hk hl (fun h v hv => ?_) (fun h v hv => ?_))))))
  · obtain ⟨c, d, b1, b2, b3, b4, b5, b6⟩ := v
    exact br_f (by decide) (H1 h _ hv)
  · obtain ⟨c, d, b1, b2, b3, b4, b5, b6⟩ := v
    exact br_t rfl (H0 h _ hv)
theorem ar_free_ok {post : Int32 → St2 → Prop} {kn : Nat → Nat} {N : Nat} (hK : ar_K kn N) {l : List (Nat × Nat × Nat)} {u : St2} (hS : ar_S kn N l u) {fi n : Nat} {p0 p1 : Int32} (hp0 : p0 = nI fi) (hp1 : p1 = nI n) (h1 : fi < 64) (h2 : 1 ≤ n) (h3 : fi + n ≤ 64) (hl : (ar_p1 fi (fi + n) l []).length ≤ 20)
    (H1 : ∀ v : St2, ar_S kn N (ar_p1 fi (fi + n) l []).reverse v → post (nI (ar_mi fi (fi + n) l 0)) v) :
    wpX_free post u p0 p1 := by
  obtain ⟨c, d, a1, a2, a3, a4, a5, a6⟩ := u
  subst hp0 hp1
  unfold wpX_free
  refine ar_proper rfl rfl h1 h2 h3 (br_f (by decide) (ar_mi_ok hS rfl (nI_add _ _) (by omega) h3 (ar_rw_free hK hS rfl (nI_add _ _) (by omega) h3 (by omega) (fun h v hv => ?_) (fun h => absurd h (by omega)))))
  obtain ⟨c, d, b1, b2, b3, b4, b5, b6⟩ := v
  exact br_f (by decide) (H1 _ hv)
end
section
/-- what protect needs of the kinds: every kind with the new rights is the last token's -/
def ar_P (kn : Nat → Nat) (N o : Nat) : Prop := ∀ c, c < N → ((nI (kn c) &&& (-8)) ||| nI o) = nI (kn (N - 1)) ∧ ((nI (kn c) &&& 7) = nI o ↔ c = N - 1)
theorem ar_168 {post : Int32 → St2 → Prop} {J50 : Int32 → Int32 → Int32 → Int32 → (Nat → Int32) → (Nat → Int32) → (Nat → Int32) → (Nat → Int32) → (Nat → Int32) → (Nat → Int32) → Prop} {x1 x3 x5 c : Int32} {kn : Nat → Nat} {N : Nat} (hK : ar_K kn N) {m : List (Nat × Nat × Nat)} {x : Nat × Nat × Nat} {i en : Nat} {a1 a2 a3 a4 a5 a6 : Nat → Int32}
    (hm : ar_mk kn N a4 a5 a6 m) (hi : i < 20) (hen : en ≤ 64) (h1 : a1 i = nI x.1) (h2 : a2 i = nI x.2.1) (h4 : x.1 ≤ 64) (h5 : x.2.1 ≤ 64) (h6 : x.2.2 < N) (hl : (ar_emit m (max x.1 en) x.2.1 x.2.2).length ≤ 48)
    (H : ∀ b4 b5 b6, ar_mk kn N b4 b5 b6 (ar_emit m (max x.1 en) x.2.1 x.2.2) → J50 x5 (nI (i + 1)) c (nI (ar_emit m (max x.1 en) x.2.1 x.2.2).length) a1 a2 a3 b4 b5 b6) :
    wX_protect_168 post J50 x1 x3 (nI en) x5 (nI i) (nI (kn x.2.2)) c (nI m.length) a1 a2 a3 a4 a5 a6 := by
  unfold wX_protect_168
  rw [nI_clamp (show i < 2 ^ 31 by omega), h1, h2]
  exact ⟨pk_in i 20 hi, ar_great rfl rfl h4 hen ⟨pk_in i 20 hi, ar_emit_ok hK hm (by omega) h5 h6 hl rfl rfl rfl rfl (fun b4 b5 b6 hb => nm_r (nI_1 i) (H b4 b5 b6 hb))⟩⟩
theorem ar_150 {post : Int32 → St2 → Prop} {J50 : Int32 → Int32 → Int32 → Int32 → (Nat → Int32) → (Nat → Int32) → (Nat → Int32) → (Nat → Int32) → (Nat → Int32) → (Nat → Int32) → Prop} {x1 c z0 z1 z : Int32} {kn : Nat → Nat} {N o : Nat} (hK : ar_K kn N) (hP : ar_P kn N o) {m : List (Nat × Nat × Nat)} {x : Nat × Nat × Nat} {i en lo hi' : Nat} {a1 a2 a3 a4 a5 a6 : Nat → Int32}
    (hm : ar_mk kn N a4 a5 a6 m) (hi : i < 20) (hen : en ≤ 64) (hlo : lo ≤ 64) (hhi : hi' ≤ 64) (h1 : a1 i = nI x.1) (h2 : a2 i = nI x.2.1) (h4 : x.1 ≤ 64) (h5 : x.2.1 ≤ 64) (h6 : x.2.2 < N) (hl : (ar_emit (ar_emit m lo hi' (N - 1)) (max x.1 en) x.2.1 x.2.2).length ≤ 48) (hz : z1 + z0 = z)
    (H : ∀ b4 b5 b6, ar_mk kn N b4 b5 b6 (ar_emit (ar_emit m lo hi' (N - 1)) (max x.1 en) x.2.1 x.2.2) → J50 z (nI (i + 1)) c (nI (ar_emit (ar_emit m lo hi' (N - 1)) (max x.1 en) x.2.1 x.2.2).length) a1 a2 a3 b4 b5 b6) :
    wX_protect_150 post J50 x1 (nI o) (nI en) (nI i) (nI lo) (nI hi') (nI (kn x.2.2)) z0 z1 c (nI m.length) a1 a2 a3 a4 a5 a6 := by
  unfold wX_protect_150
  exact nm_r hz (ar_emit_ok hK hm hlo hhi (by omega) (Nat.le_trans (ar_emit_len _ _ _ _) hl) rfl rfl rfl (hP _ h6).1 (fun b4 b5 b6 hb => ar_168 hK hb hi hen h1 h2 h4 h5 h6 hl H))
theorem ar_pr_loop {post : Int32 → St2 → Prop} {kn : Nat → Nat} {N o : Nat} (hK : ar_K kn N) (hP : ar_P kn N o) {fi en cnt : Nat} {a1 a2 a3 : Nat → Int32} (hfi : fi ≤ 64) (hen : en ≤ 64) (hcnt : cnt ≤ 20) :
    ∀ (r : List (Nat × Nat × Nat)) (i n : Nat) (m : List (Nat × Nat × Nat)) (a4 a5 a6 : Nat → Int32), ar_at kn N a1 a2 a3 i r → i + r.length = cnt → ar_mk kn N a4 a5 a6 m → (ar_pr N fi en r m).length ≤ 48 →
    ((ar_pr N fi en r m).length ≤ 20 → ∀ v : St2, ar_S kn N (ar_pr N fi en r m).reverse v → post (nI (ar_ch N fi en r n)) v) →
    (20 < (ar_pr N fi en r m).length → ∀ d b4 b5 b6, post (-2) (nI cnt, d, a1, a2, a3, b4, b5, b6)) →
    wX_protect_50 post (nI fi) (nI o) (nI en) (r.length + 1) (nI n) (nI i) (nI cnt) (nI m.length) a1 a2 a3 a4 a5 a6 := by
  intro r
  induction r with
  | nil =>
    intro i n m a4 a5 a6 ha hc hm hl H1 H0
    have hc' : i + 0 = cnt := hc
    refine pk_le cnt i (fun _ => ar_commit_ok hK hm hl rfl (fun h v hv => ?_) (fun h => br_t rfl (H0 h _ _ _ _))) (fun z => absurd z (by omega))
    obtain ⟨c, d, b1, b2, b3, b4, b5, b6⟩ := v
    exact br_f (by decide) (H1 h _ hv)
  | cons x r ih =>
    intro i n m a4 a5 a6 ha hc hm hl H1 H0
    obtain ⟨h1, h2, h3, h4, h5, h6, h7⟩ := ha
    have hc' : i + (r.length + 1) = cnt := hc
    have hi : i < 20 := by omega
    have l1 : (ar_emit (ar_emit (ar_emit m x.1 (min x.2.1 fi) x.2.2) (max x.1 fi) (min x.2.1 en) (N - 1)) (max x.1 en) x.2.1 x.2.2).length ≤ 48 := Nat.le_trans (ar_pr_len r _) hl
    have l2 : (ar_emit (ar_emit m x.1 (min x.2.1 fi) x.2.2) (max x.1 fi) (min x.2.1 en) (N - 1)).length ≤ 48 := Nat.le_trans (ar_emit_len _ _ _ _) l1
    have l3 : (ar_emit m x.1 (min x.2.1 fi) x.2.2).length ≤ 48 := Nat.le_trans (ar_emit_len _ _ _ _) l2
    have hP' := hP _ h6
    refine pk_le cnt i (fun z => absurd z (by omega)) (fun _ => ?_)
    rw [nI_clamp (show i < 2 ^ 31 by omega), h1, h2, h3]
    refine ⟨pk_in i 20 hi, ar_great rfl rfl h4 hfi ⟨pk_in i 20 hi, ar_least rfl rfl h5 hen ⟨pk_in i 20 hi, nm_e ⟨pk_in i 20 hi, ar_least rfl rfl h5 hfi ⟨pk_in i 20 hi, ar_emit_ok hK hm h4 (by omega) h6 l3 rfl rfl rfl rfl (fun b4 b5 b6 hb => ?_)⟩⟩⟩⟩⟩
    refine pk_le (min x.2.1 en) (max x.1 fi) (fun z => ?_) (fun z => ?_)
    · have E : ar_emit (ar_emit m x.1 (min x.2.1 fi) x.2.2) (max x.1 fi) (min x.2.1 en) (N - 1) = ar_emit m x.1 (min x.2.1 fi) x.2.2 := if_neg (by omega)
      have l1' := l1
      rw [E] at l1'
      refine ar_168 hK hb hi hen h1 h2 h4 h5 h6 l1' (fun d4 d5 d6 hd => ?_)
      rw [← E] at hd ⊢
      refine ih (i + 1) n _ d4 d5 d6 h7 (by omega) hd hl (fun h v hv => ?_) H0
      have t := H1 h v hv
      unfold ar_ch at t
      rw [Nat.sub_eq_zero_of_le z, Nat.add_zero, ite_self] at t
      exact t
    · refine br_c (fun g => ?_) (fun g => ?_)
      · refine ar_150 (z := nI n) hK hP hb hi hen (by omega) (by omega) h1 h2 h4 h5 h6 l1 (nI_add n 0) (fun d4 d5 d6 hd => ?_)
        refine ih (i + 1) n _ d4 d5 d6 h7 (by omega) hd hl (fun h v hv => ?_) H0
        have t := H1 h v hv
        unfold ar_ch at t
        rw [if_pos (hP'.2.mp g)] at t
        exact t
      · refine ar_150 (z := nI (n + (min x.2.1 en - max x.1 fi))) hK hP hb hi hen (by omega) (by omega) h1 h2 h4 h5 h6 l1 (by rw [pk_sub (by omega), nI_add]) (fun d4 d5 d6 hd => ?_)
        refine ih (i + 1) _ _ d4 d5 d6 h7 (by omega) hd hl (fun h v hv => ?_) H0
        have t := H1 h v hv
        unfold ar_ch at t
        rw [if_neg (fun w => g (hP'.2.mpr w))] at t
        exact t
theorem ar_pr_ok {post : Int32 → St2 → Prop} {kn : Nat → Nat} {N o : Nat} (hK : ar_K kn N) (hP : ar_P kn N o) {l : List (Nat × Nat × Nat)} {u : St2} (hS : ar_S kn N l u) {fi n : Nat} {p0 p1 p2 : Int32} (hp0 : p0 = nI fi) (hp1 : p1 = nI n) (hp2 : p2 = nI o) (ho : o ≤ 7) (h1 : fi < 64) (h2 : 1 ≤ n) (h3 : fi + n ≤ 64) (hmi : ar_mi fi (fi + n) l 0 = n) (hl : (ar_pr N fi (fi + n) l []).length ≤ 48)
    (H1 : (ar_pr N fi (fi + n) l []).length ≤ 20 → ∀ v : St2, ar_S kn N (ar_pr N fi (fi + n) l []).reverse v → post (nI (ar_ch N fi (fi + n) l 0)) v) (H0 : 20 < (ar_pr N fi (fi + n) l []).length → ∀ v : St2, ar_S kn N l v → post (-2) v) :
    wpX_protect post u p0 p1 p2 := by
  obtain ⟨c, d, a1, a2, a3, a4, a5, a6⟩ := u
  have hS' := hS
  obtain ⟨hc, hL, ha⟩ := hS
  dsimp only at hc ha
  subst hc hp0 hp1 hp2
  unfold wpX_protect
  refine ar_proper rfl rfl h1 h2 h3 (br_f (by decide) (br_f (nI_pos (by omega)) (pk_le o 7 (fun _ => nm_r (nI_add _ _) (ar_mi_ok hS' rfl rfl (by omega) h3 ?_)) (fun z => absurd z (by omega)))))
  rw [hmi]
  exact pk_le n n (fun _ => ⟨l.length + 1, ar_pr_loop hK hP (by omega) h3 hL l 0 0 [] a4 a5 a6 ha (Nat.zero_add _) trivial hl H1 (fun h d b4 b5 b6 => H0 h _ ⟨rfl, hL, ha⟩)⟩) (fun z => absurd z (by omega))
theorem ar_pr_none {post : Int32 → St2 → Prop} {kn : Nat → Nat} {N o : Nat} {l : List (Nat × Nat × Nat)} {u : St2} (hS : ar_S kn N l u) {fi n : Nat} {p0 p1 p2 : Int32} (hp0 : p0 = nI fi) (hp1 : p1 = nI n) (hp2 : p2 = nI o) (ho : o ≤ 7) (h1 : fi < 64) (h2 : 1 ≤ n) (h3 : fi + n ≤ 64) (hmi : ar_mi fi (fi + n) l 0 < n)
    (H : post (-3) u) : wpX_protect post u p0 p1 p2 := by
  obtain ⟨c, d, a1, a2, a3, a4, a5, a6⟩ := u
  subst hp0 hp1 hp2
  unfold wpX_protect
  exact ar_proper rfl rfl h1 h2 h3 (br_f (by decide) (br_f (nI_pos (by omega)) (pk_le o 7 (fun _ => nm_r (nI_add _ _) (ar_mi_ok hS rfl rfl (by omega) h3 (pk_le n (ar_mi fi (fi + n) l 0) (fun z => absurd z (by omega)) (fun _ => H)))) (fun z => absurd z (by omega)))))
end
section
theorem ar_sl {f pg n : Nat} (hf : f ≤ 64) (hp : pg ≤ 64) (hn : n ≤ 64) : (nI f - nI pg < nI n) ↔ f < pg + n := by
  rw [Int32.lt_iff_toInt_lt, pk_sub_toInt (by omega) (by omega), nI_toInt (by omega)]
  omega
theorem ar_fl {lo h1 : Nat} (hl : lo ≤ 64) (hh : h1 ≤ 64) : (nI h1 - 1 < nI lo) ↔ h1 ≤ lo := by
  rw [Int32.lt_iff_toInt_lt, show nI h1 - 1 = nI h1 - nI 1 from rfl, pk_sub_toInt (by omega) (by omega), nI_toInt (by omega)]
  omega
theorem ar_lf_loop {post : Int32 → Prop} {kn : Nat → Nat} {N : Nat} {cnt : Nat} {d : Int32} {a1 a2 a3 a4 a5 a6 : Nat → Int32} (hcnt : cnt ≤ 20) :
    ∀ (r : List (Nat × Nat × Nat)) (i pg mo : Nat), ar_at kn N a1 a2 a3 i r → i + r.length = cnt → pg ≤ 64 → mo ≤ 64 → ar_srt pg r = true → post (nI (ar_lf r pg mo)) →
    wX_longestFree_6 post (nI cnt) d a1 a2 a3 a4 a5 a6 (r.length + 1) (nI pg) (nI mo) (nI i) := by
  intro r
  induction r with
  | nil =>
    intro i pg mo ha hc hp hm hs H
    have hc' : i + 0 = cnt := hc
    exact pk_le cnt i (fun _ => ar_great rfl (pk_sub (a := 64) hp) hm (by omega) H) (fun z => absurd z (by omega))
  | cons x r ih =>
    intro i pg mo ha hc hp hm hs H
    obtain ⟨h1, h2, h3, h4, h5, h6, h7⟩ := ha
    have hc' : i + (r.length + 1) = cnt := hc
    have hi : i < 20 := by omega
    simp only [ar_srt, Bool.and_eq_true, decide_eq_true_eq] at hs
    refine pk_le cnt i (fun z => absurd z (by omega)) (fun _ => ?_)
    rw [nI_clamp (show i < 2 ^ 31 by omega), h1, h2]
    exact ⟨pk_in i 20 hi, ar_great rfl (pk_sub hs.1) hm (by omega) ⟨pk_in i 20 hi, nm_e (nm_r (nI_1 i) (ih (i + 1) _ _ h7 (by omega) h5 (by omega) hs.2 H))⟩⟩
theorem ar_lf_ok {post : Int32 → Prop} {kn : Nat → Nat} {N : Nat} {l : List (Nat × Nat × Nat)} {u : St2} (hS : ar_S kn N l u) (hs : ar_srt 0 l = true) (H : post (nI (ar_lf l 0 0))) : wpX_longestFree post u := by
  obtain ⟨c, d, a1, a2, a3, a4, a5, a6⟩ := u
  obtain ⟨hc, hL, ha⟩ := hS
  dsimp only at hc ha
  subst hc
  exact ⟨l.length + 1, ar_lf_loop hL l 0 0 0 ha (Nat.zero_add _) (by omega) (by omega) hs H⟩
theorem ar_room_loop {post : Int32 → Prop} {kn : Nat → Nat} {N : Nat} {cnt n : Nat} {d : Int32} {a1 a2 a3 a4 a5 a6 : Nat → Int32} (hcnt : cnt ≤ 20) (hn : n ≤ 64) :
    ∀ (r : List (Nat × Nat × Nat)) (i pg : Nat), ar_at kn N a1 a2 a3 i r → i + r.length = cnt → pg ≤ 64 → (ar_room n r pg = none → post (-1)) → (∀ q, ar_room n r pg = some q → post (nI q)) →
    wX_room_5 post (nI n) (nI cnt) d a1 a2 a3 a4 a5 a6 (r.length + 1) (nI pg) (nI i) := by
  intro r
  induction r with
  | nil =>
    intro i pg ha hc hp Hn Hs
    have hc' : i + 0 = cnt := hc
    exact pk_le cnt i (fun _ => ek_if (ar_sl (f := 64) (by omega) hp hn) (fun z => Hn (if_pos z)) (fun z => Hs pg (if_neg z))) (fun z => absurd z (by omega))
  | cons x r ih =>
    intro i pg ha hc hp Hn Hs
    obtain ⟨h1, h2, h3, h4, h5, h6, h7⟩ := ha
    have hc' : i + (r.length + 1) = cnt := hc
    have hi : i < 20 := by omega
    refine pk_le cnt i (fun z => absurd z (by omega)) (fun _ => ?_)
    rw [nI_clamp (show i < 2 ^ 31 by omega), h1, h2]
    refine ⟨pk_in i 20 hi, pk_le x.2.1 pg (fun z => nm_r (nI_1 i) ?_) (fun z => ⟨pk_in i 20 hi, ek_if (ar_sl h4 hp hn) (fun w => ⟨pk_in i 20 hi, nm_e (nm_r (nI_1 i) ?_)⟩) (fun w => ?_)⟩)⟩
    · have E : ar_room n (x :: r) pg = ar_room n r pg := if_pos z
      rw [E] at Hn Hs
      exact ih (i + 1) pg h7 (by omega) hp Hn Hs
    · have E : ar_room n (x :: r) pg = ar_room n r x.2.1 := (if_neg (by omega)).trans (if_pos w)
      rw [E] at Hn Hs
      exact ih (i + 1) x.2.1 h7 (by omega) h5 Hn Hs
    · exact Hs pg ((if_neg (by omega)).trans (if_neg w))
theorem ar_room_ok {post : Int32 → Prop} {kn : Nat → Nat} {N : Nat} {l : List (Nat × Nat × Nat)} {u : St2} (hS : ar_S kn N l u) {n pg : Nat} {p0 p1 : Int32} (hp0 : p0 = nI pg) (hp1 : p1 = nI n) (hn : n ≤ 64) (hp : pg ≤ 64) (Hn : ar_room n l pg = none → post (-1)) (Hs : ∀ q, ar_room n l pg = some q → post (nI q)) : wpX_room post u p0 p1 := by
  obtain ⟨c, d, a1, a2, a3, a4, a5, a6⟩ := u
  obtain ⟨hc, hL, ha⟩ := hS
  dsimp only at hc ha
  subst hc hp0 hp1
  exact ⟨l.length + 1, ar_room_loop hL hn l 0 pg ha (Nat.zero_add _) hp Hn Hs⟩
theorem ar_place_full {post : Int32 → St2 → Prop} {kn : Nat → Nat} {N : Nat} (hK : ar_K kn N) {l : List (Nat × Nat × Nat)} {u : St2} (hS : ar_S kn N l u) {h n k q : Nat} {p0 p1 p2 : Int32} (hp0 : p0 = nI h) (hp1 : p1 = nI n) (hp2 : p2 = nI (kn k)) (h1 : h < 64) (h2 : 1 ≤ n) (h3 : q + n ≤ 64) (hk : k < N) (hq : ar_room n l h = some q)
    (hl : (ar_p0 q (q + n) k l []).length ≤ 48) (hl' : 20 < (ar_p0 q (q + n) k l []).length) (H0 : ∀ v : St2, ar_S kn N l v → post (-2) v) : wpX_place post u p0 p1 p2 := by
  obtain ⟨c, d, a1, a2, a3, a4, a5, a6⟩ := u
  subst hp0 hp1 hp2
  refine pk_lt n 1 (fun z => absurd z (by omega)) (fun _ => br_f (nI_pos (by omega)) (pk_le 64 h (fun z => absurd z (by omega)) (fun _ => ar_kind rfl (hK.1 k hk) (br_f (by decide) (pk_le n 64 (fun _ => ar_room_ok hS rfl rfl (by omega) (by omega) (fun z => absurd (z.symm.trans hq) (by simp)) (fun q' hq' => ?_)) (fun z => absurd z (by omega)))))))
  have e : q' = q := Option.some.inj (hq'.symm.trans hq)
  subst e
  refine br_t (nI_pos' (by omega)) (br_t (nI_pos' (by omega)) (ar_rw_put hK hS rfl (nI_add _ _) rfl (by omega) h3 hk hl (fun z => absurd z (by omega)) (fun _ v hv => ?_)))
  obtain ⟨c, d, b1, b2, b3, b4, b5, b6⟩ := v
  exact br_t rfl (H0 _ hv)
theorem ar_place_none {post : Int32 → St2 → Prop} {kn : Nat → Nat} {N : Nat} (hK : ar_K kn N) {l : List (Nat × Nat × Nat)} {u : St2} (hS : ar_S kn N l u) {h n k : Nat} {p0 p1 p2 : Int32} (hp0 : p0 = nI h) (hp1 : p1 = nI n) (hp2 : p2 = nI (kn k)) (h1 : h < 64) (h2 : 1 ≤ n) (h3 : n ≤ 64) (hk : k < N) (hq : ar_room n l h = none) (hq0 : ar_room n l 0 = none)
    (H : post (-3) u) : wpX_place post u p0 p1 p2 := by
  obtain ⟨c, d, a1, a2, a3, a4, a5, a6⟩ := u
  subst hp0 hp1 hp2
  exact pk_lt n 1 (fun z => absurd z (by omega)) (fun _ => br_f (nI_pos (by omega)) (pk_le 64 h (fun z => absurd z (by omega)) (fun _ => ar_kind rfl (hK.1 k hk) (br_f (by decide) (pk_le n 64 (fun _ => ar_room_ok hS rfl rfl (by omega) (by omega) (fun _ => br_f (by decide) (pk_lt 64 n (fun z => absurd z (by omega)) (fun _ => ar_room_ok (pg := 0) hS rfl rfl h3 (by omega) (fun _ => br_f (by decide) H) (fun q z => absurd (z.symm.trans hq0) (by simp))))) (fun q z => absurd (z.symm.trans hq) (by simp))) (fun z => absurd z (by omega)))))))
theorem ar_nw_loop {post : Int32 → Prop} {kn : Nat → Nat} {N : Nat} {cnt pg : Nat} {x1 d : Int32} {a1 a2 a3 a4 a5 a6 : Nat → Int32} (hT : ∀ c, c < N → nI (kn c) >>> ((3 : Int32) &&& 31) = x1) (hcnt : cnt ≤ 20) (hp : pg ≤ 64) :
    ∀ (r : List (Nat × Nat × Nat)) (i : Nat), ar_at kn N a1 a2 a3 i r → i + r.length = cnt → (ar_nw pg r = none → post (-3)) → (∀ q, ar_nw pg r = some q → post (nI q)) →
    wX_nextWith_2 post x1 (nI pg) (nI cnt) d a1 a2 a3 a4 a5 a6 (r.length + 1) (nI i) := by
  intro r
  induction r with
  | nil =>
    intro i ha hc Hn Hs
    have hc' : i + 0 = cnt := hc
    exact pk_le cnt i (fun _ => Hn rfl) (fun z => absurd z (by omega))
  | cons x r ih =>
    intro i ha hc Hn Hs
    obtain ⟨h1, h2, h3, h4, h5, h6, h7⟩ := ha
    have hc' : i + (r.length + 1) = cnt := hc
    have hi : i < 20 := by omega
    refine pk_le cnt i (fun z => absurd z (by omega)) (fun _ => ?_)
    rw [nI_clamp (show i < 2 ^ 31 by omega), h1, h2, h3]
    refine ⟨pk_in i 20 hi, br_t (hT _ h6) ⟨pk_in i 20 hi, pk_le x.2.1 pg (fun z => nm_r (nI_1 i) ?_) (fun z => ⟨pk_in i 20 hi, ar_great rfl rfl h4 hp (Hs _ (if_neg (by omega)))⟩)⟩⟩
    have E : ar_nw pg (x :: r) = ar_nw pg r := if_pos z
    rw [E] at Hn Hs
    exact ih (i + 1) h7 (by omega) Hn Hs
theorem ar_nw_ok {post : Int32 → Prop} {kn : Nat → Nat} {N : Nat} {l : List (Nat × Nat × Nat)} {u : St2} (hS : ar_S kn N l u) {pg : Nat} {p0 p1 : Int32} (hp1 : p1 = nI pg) (hp : pg ≤ 64) (hT : ∀ c, c < N → nI (kn c) >>> ((3 : Int32) &&& 31) = p0) (Hn : ar_nw pg l = none → post (-3)) (Hs : ∀ q, ar_nw pg l = some q → post (nI q)) : wpX_nextWith post u p0 p1 := by
  obtain ⟨c, d, a1, a2, a3, a4, a5, a6⟩ := u
  obtain ⟨hc, hL, ha⟩ := hS
  dsimp only at hc ha
  subst hc hp1
  exact ⟨l.length + 1, ar_nw_loop hT hL hp l 0 ha (Nat.zero_add _) Hn Hs⟩
theorem ar_mid {lo h1 : Nat} (h : lo < h1) (hh : h1 ≤ 20) : (nI lo + (nI h1 - 1)) >>> ((1 : Int32) &&& 31) = nI ((lo + h1 - 1) / 2) := by
  rw [show nI h1 - 1 = nI (h1 - 1) from pk_sub (b := 1) (by omega), nI_add, pk_shrN (by omega) _ 1 (by decide), show lo + (h1 - 1) = lo + h1 - 1 by omega]
theorem ar_fd_loop {post : Int32 → Prop} {kn : Nat → Nat} {N : Nat} {pg : Nat} {c d : Int32} {a1 a2 a3 a4 a5 a6 : Nat → Int32} {l : List (Nat × Nat × Nat)} (ha : ar_at kn N a1 a2 a3 0 l) (hL : l.length ≤ 20) (hp : pg ≤ 64) :
    ∀ (n j lo h1 : Nat), j + n = 6 → lo ≤ 20 → h1 ≤ l.length → (ar_fd l pg n lo h1 = none → post (-1)) → (∀ q, ar_fd l pg n lo h1 = some q → post (nI q)) →
    wX_find_12 post (nI pg) c d a1 a2 a3 a4 a5 a6 (n + 1) (nI lo) (nI h1 - 1) (nI j) := by
  intro n
  induction n with
  | zero =>
    intro j lo h1 hj hlo hh Hn Hs
    exact pk_le 6 j (fun _ => Hn rfl) (fun z => absurd z (by omega))
  | succ n ih =>
    intro j lo h1 hj hlo hh Hn Hs
    refine pk_le 6 j (fun z => absurd z (by omega)) (fun _ => ek_if (ar_fl (by omega) (by omega)) (fun z => Hn (if_neg (by omega))) (fun z => nm_r (ar_mid (by omega) (by omega)) ?_))
    have hmid : (lo + h1 - 1) / 2 < l.length := by omega
    obtain ⟨g1, g2, g3, g4, g5, g6⟩ := ar_at_get ha hmid
    rw [Nat.zero_add] at g1 g2 g3
    rw [nI_clamp (show (lo + h1 - 1) / 2 < 2 ^ 31 by omega), g1, g2]
    have E0 : ar_fd l pg (n + 1) lo h1 = (if pg < (l.getD ((lo + h1 - 1) / 2) (0, 0, 0)).2.1 then
        (if (l.getD ((lo + h1 - 1) / 2) (0, 0, 0)).1 ≤ pg then some ((lo + h1 - 1) / 2) else ar_fd l pg n lo ((lo + h1 - 1) / 2))
       else ar_fd l pg n ((lo + h1 - 1) / 2 + 1) h1) := if_pos (by omega)
    rw [E0] at Hn Hs
    refine ⟨pk_in ((lo + h1 - 1) / 2) 20 (by omega), pk_lt pg (l.getD ((lo + h1 - 1) / 2) (0, 0, 0)).2.1 (fun w => ⟨pk_in ((lo + h1 - 1) / 2) 20 (by omega), pk_le (l.getD ((lo + h1 - 1) / 2) (0, 0, 0)).1 pg (fun y => Hs _ ((if_pos w).trans (if_pos y))) (fun y => nm_e (nm_r (nI_1 j) ?_))⟩) (fun w => nm_r (nI_1 _) (nm_r (nI_1 j) ?_))⟩
    · rw [if_pos w, if_neg (by omega)] at Hn Hs
      exact ih (j + 1) lo _ (by omega) hlo (by omega) Hn Hs
    · rw [if_neg (by omega)] at Hn Hs
      exact ih (j + 1) _ h1 (by omega) (by omega) hh Hn Hs
theorem ar_fd_ok {post : Int32 → Prop} {kn : Nat → Nat} {N : Nat} {l : List (Nat × Nat × Nat)} {u : St2} (hS : ar_S kn N l u) {pg : Nat} {p0 : Int32} (hp0 : p0 = nI pg) (hp : pg ≤ 64) (Hn : ar_fd l pg 6 0 l.length = none → post (-1)) (Hs : ∀ q, ar_fd l pg 6 0 l.length = some q → post (nI q)) : wpX_find post u p0 := by
  obtain ⟨c, d, a1, a2, a3, a4, a5, a6⟩ := u
  obtain ⟨hc, hL, ha⟩ := hS
  dsimp only at hc ha
  subst hc hp0
  exact nm_e ⟨7, ar_fd_loop ha hL hp 6 0 0 l.length rfl (by omega) (Nat.le_refl _) Hn Hs⟩
theorem ar_page {post : Int32 → Prop} {f : Nat} {x : Int32} (hx : x = nI f) (h1 : f < 64) (H : post 1) : wpX_isPage post () x := by
  subst hx
  exact br_f (nI_pos (by omega)) (pk_le 64 f (fun z => absurd z (by omega)) (fun _ => H))
theorem ar_area {post : Int32 → Prop} {kn : Nat → Nat} {N : Nat} {l : List (Nat × Nat × Nat)} {u : St2} (hS : ar_S kn N l u) {i : Nat} {p0 : Int32} (hp0 : p0 = nI i) (hi : i < 64) (H0 : l.length ≤ i → post 0) (H1 : i < l.length → post 1) : wpX_isArea post u p0 := by
  obtain ⟨c, d, a1, a2, a3, a4, a5, a6⟩ := u
  obtain ⟨hc, hL, ha⟩ := hS
  dsimp only at hc ha
  subst hc hp0
  exact br_f (nI_pos (by omega)) (pk_le l.length i H0 H1)
theorem ar_areas {post : Int32 → Prop} {kn : Nat → Nat} {N : Nat} {l : List (Nat × Nat × Nat)} {u : St2} (hS : ar_S kn N l u) (H : post (nI l.length)) : wpX_areas post u := by
  obtain ⟨c, d, a1, a2, a3, a4, a5, a6⟩ := u
  obtain ⟨hc, hL, ha⟩ := hS
  dsimp only at hc ha
  subst hc
  exact H
theorem ar_first {post : Int32 → Prop} {kn : Nat → Nat} {N : Nat} {l : List (Nat × Nat × Nat)} {u : St2} (hS : ar_S kn N l u) {i : Nat} {p0 : Int32} (hp0 : p0 = nI i) (hi : i < 64) (H0 : l.length ≤ i → post (-3)) (H1 : i < l.length → post (nI (l.getD i (0, 0, 0)).1)) : wpX_areaFirst post u p0 := by
  obtain ⟨c, d, a1, a2, a3, a4, a5, a6⟩ := u
  subst hp0
  unfold wpX_areaFirst
  refine ar_area hS rfl hi (fun h => br_t rfl (H0 h)) (fun h => br_f (by decide) ?_)
  have hL := hS.2.1
  have g := ar_at_get hS.2.2 h
  rw [Nat.zero_add] at g
  dsimp only at g
  rw [nI_clamp (show i < 2 ^ 31 by omega), g.1]
  exact ⟨pk_in i 20 (by omega), H1 h⟩
theorem ar_len {post : Int32 → Prop} {kn : Nat → Nat} {N : Nat} {l : List (Nat × Nat × Nat)} {u : St2} (hS : ar_S kn N l u) {i : Nat} {p0 : Int32} (hp0 : p0 = nI i) (h : i < l.length) (ho : (l.getD i (0, 0, 0)).1 ≤ (l.getD i (0, 0, 0)).2.1) (H1 : post (nI ((l.getD i (0, 0, 0)).2.1 - (l.getD i (0, 0, 0)).1))) : wpX_areaLength post u p0 := by
  obtain ⟨c, d, a1, a2, a3, a4, a5, a6⟩ := u
  subst hp0
  have hL := hS.2.1
  unfold wpX_areaLength
  refine ar_area hS rfl (by omega) (fun h => absurd h (by omega)) (fun h => br_f (by decide) ?_)
  have g := ar_at_get hS.2.2 h
  rw [Nat.zero_add] at g
  dsimp only at g
  rw [nI_clamp (show i < 2 ^ 31 by omega), g.1, g.2.1, pk_sub ho]
  exact ⟨pk_in i 20 (by omega), pk_in i 20 (by omega), H1⟩
theorem ar_mapped {post : Int32 → Prop} {kn : Nat → Nat} {N : Nat} {l : List (Nat × Nat × Nat)} {u : St2} (hS : ar_S kn N l u) (H : post (nI (ar_mi 0 64 l 0))) : wpX_mapped post u := by
  obtain ⟨c, d, a1, a2, a3, a4, a5, a6⟩ := u
  unfold wpX_mapped
  exact ar_mi_ok (fi := 0) (en := 64) hS rfl rfl (by omega) (by omega) H
theorem ar_areaOf {post : Int32 → Prop} {kn : Nat → Nat} {N : Nat} {l : List (Nat × Nat × Nat)} {u : St2} (hS : ar_S kn N l u) {pg q : Nat} {p0 : Int32} (hp0 : p0 = nI pg) (hp : pg < 64) (hq : q < 64) (hf : ar_fd l pg 6 0 l.length = some q) (H : post (nI q)) : wpX_areaOf post u p0 := by
  obtain ⟨c, d, a1, a2, a3, a4, a5, a6⟩ := u
  subst hp0
  unfold wpX_areaOf
  refine ar_page rfl hp (br_f (by decide) (ar_fd_ok hS rfl (by omega) (fun z => absurd (z.symm.trans hf) (by simp)) (fun q' hq' => ?_)))
  have e : q' = q := Option.some.inj (hq'.symm.trans hf)
  subst e
  exact br_t (nI_pos' (by omega)) H
theorem ar_tagNone {post : Int32 → Prop} {kn : Nat → Nat} {N : Nat} {l : List (Nat × Nat × Nat)} {u : St2} (hS : ar_S kn N l u) {pg : Nat} {p0 : Int32} (hp0 : p0 = nI pg) (hp : pg < 64) (hf : ar_fd l pg 6 0 l.length = none) (H : post (-3)) : wpX_tag post u p0 := by
  obtain ⟨c, d, a1, a2, a3, a4, a5, a6⟩ := u
  subst hp0
  unfold wpX_tag
  exact ar_page rfl hp (br_f (by decide) (ar_fd_ok hS rfl (by omega) (fun _ => br_f (by decide) H) (fun q z => absurd (z.symm.trans hf) (by simp))))
theorem ar_rights {post : Int32 → Prop} {kn : Nat → Nat} {N : Nat} {l : List (Nat × Nat × Nat)} {u : St2} (hS : ar_S kn N l u) {pg q : Nat} {p0 : Int32} (hp0 : p0 = nI pg) (hp : pg < 64) (hq : q < l.length) (hf : ar_fd l pg 6 0 l.length = some q) (H : post (nI (kn (l.getD q (0, 0, 0)).2.2) &&& 7)) : wpX_rights post u p0 := by
  obtain ⟨c, d, a1, a2, a3, a4, a5, a6⟩ := u
  subst hp0
  have hL := hS.2.1
  unfold wpX_rights
  refine ar_page rfl hp (br_f (by decide) (ar_fd_ok hS rfl (by omega) (fun z => absurd (z.symm.trans hf) (by simp)) (fun q' hq' => ?_)))
  have e : q' = q := Option.some.inj (hq'.symm.trans hf)
  subst e
  have g := ar_at_get hS.2.2 hq
  rw [Nat.zero_add] at g
  dsimp only at g
  refine br_t (nI_pos' (by omega)) ?_
  rw [nI_clamp (show q' < 2 ^ 31 by omega), g.2.2.1]
  exact ⟨pk_in q' 20 (by omega), H⟩
theorem ar_al_loop {post : Int32 → Prop} {kn : Nat → Nat} {N : Nat} {f n : Nat} {x3 d : Int32} {a1 a2 a3 a4 a5 a6 : Nat → Int32} {l : List (Nat × Nat × Nat)} (hS : ar_S kn N l (nI l.length, d, a1, a2, a3, a4, a5, a6)) (hA : ∀ c, c < N → (x3 &&& (nI (kn c) ^^^ (-1))) = 0) (hf : f + n ≤ 64) :
    ∀ (r : List (Nat × Nat × Nat)) (i pg : Nat), ar_at kn N a1 a2 a3 i r → i + r.length = l.length → pg ≤ 64 → (ar_al (f + n) r pg = true → post 1) → (ar_al (f + n) r pg = false → post 0) →
    wX_allows_30 post (nI f) (nI n) x3 (nI l.length) d a1 a2 a3 a4 a5 a6 (r.length + 1) (nI pg) (nI i) := by
  have hL := hS.2.1
  intro r
  induction r with
  | nil =>
    intro i pg ha hc hp Ht Hf
    have hc' : i + 0 = l.length := hc
    exact pk_le (f + n) pg (fun z => Ht (decide_eq_true z)) (fun z => ar_area hS rfl (by omega) (fun _ => br_t rfl (Hf (decide_eq_false (by omega)))) (fun w => absurd w (by omega))) (nI_add _ _)
  | cons x r ih =>
    intro i pg ha hc hp Ht Hf
    obtain ⟨h1, h2, h3, h4, h5, h6, h7⟩ := ha
    have hc' : i + (r.length + 1) = l.length := hc
    have hi : i < 20 := by omega
    refine pk_le (f + n) pg (fun z => Ht (if_pos z)) (fun z => ar_area hS rfl (by omega) (fun w => absurd w (by omega)) (fun w => br_f (by decide) ?_)) (nI_add _ _)
    rw [nI_clamp (show i < 2 ^ 31 by omega), h1, h2, h3]
    refine ⟨pk_in i 20 hi, pk_lt pg x.1 (fun y => Hf ((if_neg (by omega)).trans (if_pos y))) (fun y => ⟨pk_in i 20 hi, br_t (hA _ h6) ⟨pk_in i 20 hi, nm_e (nm_r (nI_1 i) ?_)⟩⟩)⟩
    have E : ar_al (f + n) (x :: r) pg = ar_al (f + n) r x.2.1 := (if_neg (by omega)).trans (if_neg (by omega))
    rw [E] at Ht Hf
    exact ih (i + 1) x.2.1 h7 (by omega) h5 Ht Hf
theorem ar_al_ok {post : Int32 → Prop} {kn : Nat → Nat} {N : Nat} {l : List (Nat × Nat × Nat)} {u : St2} (hS : ar_S kn N l u) {f n q : Nat} {p0 p1 p2 : Int32} (hp0 : p0 = nI f) (hp1 : p1 = nI n) (h1 : f < 64) (h2 : 1 ≤ n) (h3 : f + n ≤ 64) (hr : ¬ p2 < 0) (hr7 : p2 ≤ 7) (hA : ∀ c, c < N → (p2 &&& (nI (kn c) ^^^ (-1))) = 0) (hq : q < l.length) (hf : ar_fd l f 6 0 l.length = some q)
    (Ht : ar_al (f + n) (l.drop q) f = true → post 1) (Hf : ar_al (f + n) (l.drop q) f = false → post 0) : wpX_allows post u p0 p1 p2 := by
  obtain ⟨c, d, a1, a2, a3, a4, a5, a6⟩ := u
  have hc : c = nI l.length := hS.1
  subst hc hp0 hp1
  unfold wpX_allows
  refine ar_proper rfl rfl h1 h2 h3 (br_f (by decide) (br_f hr (br_t hr7 (ar_fd_ok hS rfl (by omega) (fun z => absurd (z.symm.trans hf) (by simp)) (fun q' hq' => ?_)))))
  have e : q' = q := Option.some.inj (hq'.symm.trans hf)
  subst e
  have ha := ar_at_drop hS.2.2 (Nat.le_of_lt hq)
  rw [Nat.zero_add] at ha
  exact ⟨(l.drop q').length + 1, ar_al_loop hS hA h3 (l.drop q') q' f ha (by rw [List.length_drop]; omega) (by omega) Ht Hf⟩
end
section
/-! the lists that the law goes through, and what holds of them (decided) -/
def ar_l (k : Nat) : List (Nat × Nat × Nat) := (List.range k).map (fun i => (3 * i, 3 * i + 1, 0))
def ar_s1 (p : Nat) : List (Nat × Nat × Nat) := (ar_p0 (3 * p + 1) (3 * p + 1 + 2) 0 (ar_l 20) []).reverse
def ar_s3 (N p : Nat) : List (Nat × Nat × Nat) := (ar_pr N (3 * p + 1) (3 * p + 1 + 3) (ar_s1 p) []).reverse
def ar_s4 (N p : Nat) : List (Nat × Nat × Nat) := (ar_p1 (3 * p + 1) (3 * p + 1 + 1) (ar_s3 N p) []).reverse
theorem ar_f0 : ∀ k, k < 20 → (ar_p0 (3 * k) (3 * k + 1) 0 (ar_l k) []).reverse = ar_l (k + 1) ∧ (ar_p0 (3 * k) (3 * k + 1) 0 (ar_l k) []).length ≤ 20 ∧ ar_mi (3 * k) (3 * k + 1) (ar_l k) 0 = 0 := by decide +kernel
theorem ar_f1 : (ar_l 20).length = 20 ∧ ar_mi 0 64 (ar_l 20) 0 = 20 ∧ ar_srt 0 (ar_l 20) = true ∧ ar_lf (ar_l 20) 0 0 = 6 := by decide +kernel
theorem ar_f1a : (ar_p0 61 (61 + 2) 0 (ar_l 20) []).length = 21 ∧ (ar_p0 62 (62 + 2) 0 (ar_l 20) []).length = 21 ∧ ar_room 2 (ar_l 20) 62 = some 62 ∧ ar_room 7 (ar_l 20) 0 = none := by decide +kernel
theorem ar_f1b : ar_fd (ar_l 20) 57 6 0 (ar_l 20).length = some 19 ∧ ar_fd (ar_l 20) 61 6 0 (ar_l 20).length = none := by decide +kernel
theorem ar_f2 : ∀ p, p < 19 → (ar_p0 (3 * p + 1) (3 * p + 1 + 2) 0 (ar_l 20) []).length = 19 ∧ ar_mi (3 * p + 1) (3 * p + 1 + 2) (ar_l 20) 0 = 0 ∧ (ar_s1 p).length = 19 ∧ (ar_s1 p).getD p (0, 0, 0) = (3 * p, 3 * p + 4, 0) := by decide +kernel
theorem ar_f2a : ∀ p, p < 19 → ar_mi 0 64 (ar_s1 p) 0 = 22 ∧ ar_fd (ar_s1 p) (3 * p) 6 0 (ar_s1 p).length = some p ∧ ar_fd (ar_s1 p) (3 * p + 1) 6 0 (ar_s1 p).length = some p := by decide +kernel
theorem ar_f2b : ∀ p, p < 19 → ar_al (3 * p + 4) ((ar_s1 p).drop p) (3 * p) = true ∧ ar_al (3 * p + 5) ((ar_s1 p).drop p) (3 * p) = false := by decide +kernel
theorem ar_f2c : ∀ p, p < 19 → ar_mi (3 * p + 1) (3 * p + 1 + 2) (ar_s1 p) 0 = 2 ∧ ar_mi (3 * p + 1) (3 * p + 1 + 3) (ar_s1 p) 0 = 3 := by decide +kernel
theorem ar_f3 : ∀ p, p < 19 → (ar_pr 1 (3 * p + 1) (3 * p + 1 + 2) (ar_s1 p) []).reverse = ar_s1 p ∧ (ar_pr 1 (3 * p + 1) (3 * p + 1 + 2) (ar_s1 p) []).length = 19 ∧ ar_ch 1 (3 * p + 1) (3 * p + 1 + 2) (ar_s1 p) 0 = 0 ∧ (ar_pr 2 (3 * p + 1) (3 * p + 1 + 2) (ar_s1 p) []).length = 21 := by decide +kernel
theorem ar_f4 : ∀ p, p < 19 → (ar_pr 1 (3 * p + 1) (3 * p + 1 + 3) (ar_s1 p) []).length = 19 ∧ ar_ch 1 (3 * p + 1) (3 * p + 1 + 3) (ar_s1 p) 0 = 0 ∧ (ar_pr 2 (3 * p + 1) (3 * p + 1 + 3) (ar_s1 p) []).length = 20 ∧ ar_ch 2 (3 * p + 1) (3 * p + 1 + 3) (ar_s1 p) 0 = 3 := by decide +kernel
theorem ar_f5a : ∀ p, p < 19 → (ar_s3 1 p).length = 19 ∧ ar_mi (3 * p + 4) (3 * p + 4 + 1) (ar_s3 1 p) 0 = 0 ∧ (ar_p1 (3 * p + 1) (3 * p + 1 + 1) (ar_s3 1 p) []).length = 20 ∧ ar_mi (3 * p + 1) (3 * p + 1 + 1) (ar_s3 1 p) 0 = 1 := by decide +kernel
theorem ar_f5b : ∀ p, p < 19 → (ar_s3 2 p).length = 20 ∧ ar_mi (3 * p + 4) (3 * p + 4 + 1) (ar_s3 2 p) 0 = 0 ∧ (ar_p1 (3 * p + 1) (3 * p + 1 + 1) (ar_s3 2 p) []).length = 20 ∧ ar_mi (3 * p + 1) (3 * p + 1 + 1) (ar_s3 2 p) 0 = 1 := by decide +kernel
theorem ar_f6a : ∀ p, p < 19 → (ar_s4 1 p).length = 20 ∧ ar_mi 0 64 (ar_s4 1 p) 0 = 21 ∧ ar_nw (3 * p + 1) (ar_s4 1 p) = some (3 * p + 2) ∧ ar_nw 58 (ar_s4 1 p) = none ∧ ar_p1 0 64 (ar_s4 1 p) [] = [] := by decide +kernel
theorem ar_f6b : ∀ p, p < 19 → (ar_s4 2 p).length = 20 ∧ ar_mi 0 64 (ar_s4 2 p) 0 = 21 ∧ ar_nw (3 * p + 1) (ar_s4 2 p) = some (3 * p + 2) ∧ ar_nw 58 (ar_s4 2 p) = none ∧ ar_p1 0 64 (ar_s4 2 p) [] = [] := by decide +kernel
theorem ar_f5 {N p : Nat} (hN : N = 1 ∨ N = 2) (hp : p < 19) : (ar_s3 N p).length = 18 + N ∧ ar_mi (3 * p + 4) (3 * p + 4 + 1) (ar_s3 N p) 0 = 0 ∧ (ar_p1 (3 * p + 1) (3 * p + 1 + 1) (ar_s3 N p) []).length = 20 ∧ ar_mi (3 * p + 1) (3 * p + 1 + 1) (ar_s3 N p) 0 = 1 := by
  rcases hN with h | h
  · rw [h]
    exact ar_f5a p hp
  · rw [h]
    exact ar_f5b p hp
theorem ar_f6 {N p : Nat} (hN : N = 1 ∨ N = 2) (hp : p < 19) : (ar_s4 N p).length = 20 ∧ ar_mi 0 64 (ar_s4 N p) 0 = 21 ∧ ar_nw (3 * p + 1) (ar_s4 N p) = some (3 * p + 2) ∧ ar_nw 58 (ar_s4 N p) = none ∧ ar_p1 0 64 (ar_s4 N p) [] = [] := by
  rcases hN with h | h
  · rw [h]
    exact ar_f6a p hp
  · rw [h]
    exact ar_f6b p hp
/-! the kinds -/
def ar_kn (r o g : Nat) (c : Nat) : Nat := if c = 0 then r + 8 * g else o + 8 * g
theorem ar_k1 : ∀ r, r < 8 → ∀ g, g < 16 → (nI (r + 8 * g) &&& 7) = nI r ∧ nI (r + 8 * g) >>> ((3 : Int32) &&& 31) = nI g ∧ (nI r &&& (nI (r + 8 * g) ^^^ (-1))) = 0 := by decide +kernel
theorem ar_k2 : ∀ r, r < 8 → ∀ o, o < 8 → ∀ g, g < 16 → ((nI (r + 8 * g) &&& (-8)) ||| nI o) = nI (o + 8 * g) := by decide +kernel
theorem ar_z0 (x : Int32) : (0 &&& x) = 0 := by
  apply Int32.toBitVec_inj.mp
  exact BitVec.zero_and
theorem ar_kK {r o g N : Nat} (hr : r < 8) (ho : o < 8) (hg : g < 16) (hN : (o = r ∧ N = 1) ∨ (o ≠ r ∧ N = 2)) : ar_K (ar_kn r o g) N := by
  refine ⟨fun c _ => ?_, fun c d hc hd e => ?_⟩
  · unfold ar_kn
    split <;> omega
  · unfold ar_kn at e
    split at e <;> split at e <;> omega
theorem ar_kK1 {r o g : Nat} (hr : r < 8) (ho : o < 8) (hg : g < 16) : ar_K (ar_kn r o g) 1 := by
  refine ⟨fun c _ => ?_, fun c d hc hd e => by omega⟩
  unfold ar_kn
  split <;> omega
theorem ar_kP {r o g N : Nat} (hr : r < 8) (ho : o < 8) (hg : g < 16) (hN : (o = r ∧ N = 1) ∨ (o ≠ r ∧ N = 2)) : ar_P (ar_kn r o g) N o := by
  intro c hc
  rcases hN with ⟨h, h'⟩ | ⟨h, h'⟩
  · subst h h'
    have e : c = 0 := by omega
    subst e
    exact ⟨ar_k2 o ho o ho g hg, fun _ => rfl, fun _ => (ar_k1 o ho g hg).1⟩
  · subst h'
    by_cases e : c = 0
    · subst e
      refine ⟨ar_k2 r hr o ho g hg, fun t => ?_, fun t => absurd t (by decide)⟩
      have t' : (nI (r + 8 * g) &&& 7) = nI o := t
      rw [(ar_k1 r hr g hg).1, nI_eq (by omega) (by omega)] at t'
      exact absurd t'.symm h
    · have e' : c = 1 := by omega
      subst e'
      exact ⟨ar_k2 o ho o ho g hg, fun _ => rfl, fun _ => (ar_k1 o ho g hg).1⟩
theorem ar_kT {r o g : Nat} (hr : r < 8) (ho : o < 8) (hg : g < 16) (c : Nat) : nI (ar_kn r o g c) >>> ((3 : Int32) &&& 31) = nI g := by
  unfold ar_kn
  split
  · exact (ar_k1 r hr g hg).2.1
  · exact (ar_k1 o ho g hg).2.1
theorem ar_3 (p b : Nat) : 3 * nI p + nI b = nI (3 * p + b) := by rw [show (3 : Int32) = nI 3 from rfl, pk_mul, nI_add]
theorem ar_30 (p : Nat) : 3 * nI p = nI (3 * p) := pk_mul 3 p
end
section
theorem ar_free_bad {post : Int32 → St2 → Prop} {u : St2} (H : post (-1) u) : wpX_free post u 60 5 := by
  obtain ⟨c, d, a1, a2, a3, a4, a5, a6⟩ := u
  unfold wpX_free wpX_isProper
  exact br_f (by decide) (br_f (by decide) (br_f (by decide) (br_t (by decide) (br_t rfl H))))
theorem ar_map_bad {post : Int32 → St2 → Prop} {u : St2} (H : post (-1) u) : wpX_map post u 0 0 0 := by
  obtain ⟨c, d, a1, a2, a3, a4, a5, a6⟩ := u
  unfold wpX_map wpX_isProper
  exact br_f (by decide) (br_f (by decide) (br_t (by decide) (br_t rfl H)))
theorem ar_place_bad {post : Int32 → St2 → Prop} {u : St2} (H : post (-1) u) : wpX_place post u 64 1 0 := by
  obtain ⟨c, d, a1, a2, a3, a4, a5, a6⟩ := u
  exact br_f (by decide) (br_f (by decide) (br_t (by decide) H))
theorem ar_prot_bad {post : Int32 → St2 → Prop} {u : St2} (H : post (-1) u) : wpX_protect post u 0 1 8 := by
  obtain ⟨c, d, a1, a2, a3, a4, a5, a6⟩ := u
  unfold wpX_protect wpX_isProper
  exact br_f (by decide) (br_f (by decide) (br_f (by decide) (br_f (by decide) (br_f (by decide) (br_f (by decide) (br_f (by decide) H))))))
theorem ar_594 {post : Int32 → St0 → Prop} {mc ms kc ks : Nat} {c d : Int32} {a1 a2 a3 a4 a5 a6 : Nat → Int32} {kn : Nat → Nat} {N : Nat} {l : List (Nat × Nat × Nat)} (hK : ar_K kn N) (hS : ar_S kn N l (c, d, a1, a2, a3, a4, a5, a6)) (e1 : ar_p1 0 (0 + 64) l [] = []) (e2 : ar_mi 0 (0 + 64) l 0 = 21) (H : post 1 ()) :
    wL_lawOf_594 post mc ms 1 kc ks c d a1 a2 a3 a4 a5 a6 := by
  unfold wL_lawOf_594
  refine ar_free_ok (fi := 0) (n := 64) hK hS rfl rfl (by omega) (by omega) (by omega) (by rw [e1]; decide) (fun v hv => ?_)
  rw [e1] at hv
  rw [e2]
  obtain ⟨c, d, b1, b2, b3, b4, b5, b6⟩ := v
  refine br_f (by decide) (br_t rfl (ar_areas hv (br_t rfl (ar_lf_ok hv rfl (br_t rfl (ar_free_bad (br_t rfl (ar_map_bad (br_t rfl (ar_place_bad (br_t rfl (ar_prot_bad (br_t rfl H)))))))))))))
theorem ar_502 {post : Int32 → St0 → Prop} {mc ms kc ks : Nat} {x6 c d : Int32} {a1 a2 a3 a4 a5 a6 : Nat → Int32} {kn : Nat → Nat} {N p : Nat} (hK : ar_K kn N) (hN : N = 1 ∨ N = 2) (hp : p < 19) (hT : ∀ c, c < N → nI (kn c) >>> ((3 : Int32) &&& 31) = x6) (hS : ar_S kn N (ar_s3 N p) (c, d, a1, a2, a3, a4, a5, a6)) (H : post 1 ()) :
    wL_lawOf_502 post mc ms x6 (nI p) 1 kc ks c d a1 a2 a3 a4 a5 a6 := by
  unfold wL_lawOf_502
  obtain ⟨f1, f2, f3, f4⟩ := ar_f5 hN hp
  obtain ⟨g1, g2, g3, g4, g5⟩ := ar_f6 hN hp
  refine ar_free_ok (n := 1) hK hS (ar_3 p 1) rfl (by omega) (by omega) (by omega) (by omega) (fun v hv => ?_)
  rw [f4]
  have hv' : ar_S kn N (ar_s4 N p) v := hv
  obtain ⟨c, d, b1, b2, b3, b4, b5, b6⟩ := v
  refine ar_areas hv' (br_f (by decide) (br_t rfl (br_t (by rw [g1]; rfl) (ar_mapped hv' (br_t (by rw [g2]; rfl) (ar_nw_ok hv' (ar_3 p 1) (by omega) hT (fun z => absurd (z.symm.trans g3) (by simp)) (fun q hq => ?_)))))))
  have e : q = 3 * p + 2 := Option.some.inj (hq.symm.trans g3)
  subst e
  exact br_t (ar_3 p 2).symm (ar_nw_ok (pg := 58) hv' rfl (by omega) hT (fun _ => br_t rfl (ar_594 hK hv' g5 g2 H)) (fun q z => absurd (z.symm.trans g4) (by simp)))
theorem ar_475 {post : Int32 → St0 → Prop} {mc ms kc ks : Nat} {x6 z0 z1 c d : Int32} {a1 a2 a3 a4 a5 a6 : Nat → Int32} {kn : Nat → Nat} {N p o : Nat} (hK : ar_K kn N) (hN : N = 1 ∨ N = 2) (hp : p < 19) (ho : o < 8) (hT : ∀ c, c < N → nI (kn c) >>> ((3 : Int32) &&& 31) = x6) (hS : ar_S kn N (ar_s3 N p) (c, d, a1, a2, a3, a4, a5, a6)) (hz : z1 = z0) (H : post 1 ()) :
    wL_lawOf_475 post mc ms x6 (nI o) (nI p) z0 z1 kc ks c d a1 a2 a3 a4 a5 a6 := by
  unfold wL_lawOf_475
  obtain ⟨f1, f2, f3, f4⟩ := ar_f5 hN hp
  exact br_t hz (ar_pr_none (n := 1) hS (ar_3 p 4) rfl rfl (by omega) (by omega) (by omega) (by omega) (by omega) (br_t rfl (ar_502 hK hN hp hT hS H)))
theorem ar_455 {post : Int32 → St0 → Prop} {mc ms kc ks : Nat} {x6 x14 z0 z1 c d : Int32} {a1 a2 a3 a4 a5 a6 : Nat → Int32} {kn : Nat → Nat} {N p o : Nat} (hK : ar_K kn N) (hx : (N = 1 ∧ x14 = 1) ∨ (N = 2 ∧ x14 = 0)) (hp : p < 19) (ho : o < 8) (hT : ∀ c, c < N → nI (kn c) >>> ((3 : Int32) &&& 31) = x6) (hS : ar_S kn N (ar_s3 N p) (c, d, a1, a2, a3, a4, a5, a6)) (hz : z1 = z0) (H : post 1 ()) :
    wL_lawOf_455 post mc ms x6 (nI o) (nI p) x14 z0 z1 kc ks c d a1 a2 a3 a4 a5 a6 := by
  unfold wL_lawOf_455
  have hN : N = 1 ∨ N = 2 := by omega
  have f1 := (ar_f5 hN hp).1
  refine br_t hz (ar_areas hS ?_)
  rw [f1]
  rcases hx with ⟨h, e⟩ | ⟨h, e⟩
  · subst h e
    exact br_f (by decide) (ar_475 hK hN hp ho hT hS rfl H)
  · subst h e
    exact br_t rfl (ar_475 hK hN hp ho hT hS rfl H)
theorem ar_420 {post : Int32 → St0 → Prop} {mc ms kc ks : Nat} {x6 x14 c d : Int32} {a1 a2 a3 a4 a5 a6 : Nat → Int32} {kn : Nat → Nat} {N p o : Nat} (hK : ar_K kn N) (hP : ar_P kn N o) (hx : (N = 1 ∧ x14 = 1) ∨ (N = 2 ∧ x14 = 0)) (hp : p < 19) (ho : o < 8) (hT : ∀ c, c < N → nI (kn c) >>> ((3 : Int32) &&& 31) = x6) (hS : ar_S kn N (ar_s1 p) (c, d, a1, a2, a3, a4, a5, a6)) (H : post 1 ()) :
    wL_lawOf_420 post mc ms x6 (nI o) (nI p) x14 1 kc ks c d a1 a2 a3 a4 a5 a6 := by
  unfold wL_lawOf_420
  obtain ⟨f1, f2, f3, f4⟩ := ar_f4 p hp
  have hL : (ar_pr N (3 * p + 1) (3 * p + 1 + 3) (ar_s1 p) []).length ≤ 20 := by
    rcases hx with ⟨h, e⟩ | ⟨h, e⟩
    · rw [h]
      omega
    · rw [h]
      omega
  refine ar_pr_ok (n := 3) hK hP hS (ar_3 p 1) rfl rfl (by omega) (by omega) (by omega) (by omega) (ar_f2c p hp).2 (by omega) (fun _ v hv => ?_) (fun h => absurd h (by omega))
  have hv' : ar_S kn N (ar_s3 N p) v := hv
  obtain ⟨c, d, b1, b2, b3, b4, b5, b6⟩ := v
  refine br_f (by decide) ?_
  have hx' := hx
  rcases hx with ⟨h, e⟩ | ⟨h, e⟩
  · subst h e
    exact br_f (by decide) (ar_455 hK hx' hp ho hT hv' (by rw [f2]; rfl) H)
  · subst h e
    exact br_t rfl (ar_455 hK hx' hp ho hT hv' (by rw [f4]; rfl) H)
theorem ar_386 {post : Int32 → St0 → Prop} {mc ms kc ks : Nat} {x5 x6 x14 z0 z1 c d : Int32} {a1 a2 a3 a4 a5 a6 : Nat → Int32} {kn : Nat → Nat} {N p o : Nat} (hK : ar_K kn N) (hP : ar_P kn N o) (hx : (N = 1 ∧ x14 = 1) ∨ (N = 2 ∧ x14 = 0)) (hp : p < 19) (ho : o < 8) (hT : ∀ c, c < N → nI (kn c) >>> ((3 : Int32) &&& 31) = x6) (hR : (nI (kn 0) &&& 7) = x5) (hS : ar_S kn N (ar_s1 p) (c, d, a1, a2, a3, a4, a5, a6)) (hz : z1 = z0) (H : post 1 ()) :
    wL_lawOf_386 post mc ms x5 x6 (nI o) (nI p) x14 z0 z1 kc ks c d a1 a2 a3 a4 a5 a6 := by
  unfold wL_lawOf_386
  obtain ⟨f1, f2, f3, f4⟩ := ar_f2 p hp
  refine br_t hz (ar_areas hS (br_t (by rw [f3]; rfl) (ar_rights (q := p) hS (ar_3 p 1) (by omega) (by omega) (ar_f2a p hp).2.2 (br_t ?_ (ar_420 hK hP hx hp ho hT hS H)))))
  rw [f4]
  exact hR
theorem ar_366 {post : Int32 → St0 → Prop} {mc ms kc ks : Nat} {x5 x6 x13 x14 c d : Int32} {a1 a2 a3 a4 a5 a6 : Nat → Int32} {kn : Nat → Nat} {N p o : Nat} (hK : ar_K kn N) (hP : ar_P kn N o) (hx : (N = 1 ∧ x14 = 1 ∧ x13 = 0) ∨ (N = 2 ∧ x14 = 0 ∧ x13 = -2)) (hp : p < 19) (ho : o < 8) (hT : ∀ c, c < N → nI (kn c) >>> ((3 : Int32) &&& 31) = x6) (hR : (nI (kn 0) &&& 7) = x5) (hS : ar_S kn N (ar_s1 p) (c, d, a1, a2, a3, a4, a5, a6)) (H : post 1 ()) :
    wL_lawOf_366 post mc ms x5 x6 1 (nI o) (nI p) x13 x14 kc ks c d a1 a2 a3 a4 a5 a6 := by
  unfold wL_lawOf_366
  refine br_f (by decide) ?_
  rcases hx with ⟨h, e, e'⟩ | ⟨h, e, e'⟩
  · subst e
    exact br_f (by decide) (ar_386 hK hP (Or.inl ⟨h, rfl⟩) hp ho hT hR hS e' H)
  · subst e
    exact br_t rfl (ar_386 hK hP (Or.inr ⟨h, rfl⟩) hp ho hT hR hS e' H)
theorem ar_336 {post : Int32 → St0 → Prop} {mc ms kc ks : Nat} {x6 c d : Int32} {a1 a2 a3 a4 a5 a6 : Nat → Int32} {kn : Nat → Nat} {N p o r : Nat} (hK : ar_K kn N) (hP : ar_P kn N o) (hN : (o = r ∧ N = 1) ∨ (o ≠ r ∧ N = 2)) (hp : p < 19) (ho : o < 8) (hr : r < 8) (hT : ∀ c, c < N → nI (kn c) >>> ((3 : Int32) &&& 31) = x6) (hR : (nI (kn 0) &&& 7) = nI r) (hS : ar_S kn 1 (ar_s1 p) (c, d, a1, a2, a3, a4, a5, a6)) (H : post 1 ()) :
    wL_lawOf_336 post mc ms (nI r) x6 (nI o) (nI p) 1 kc ks c d a1 a2 a3 a4 a5 a6 := by
  unfold wL_lawOf_336
  obtain ⟨f1, f2, f3, f4⟩ := ar_f3 p hp
  have hS' : ar_S kn N (ar_s1 p) (c, d, a1, a2, a3, a4, a5, a6) := ar_S_mono (by omega) hS
  rcases hN with ⟨h, e⟩ | ⟨h, e⟩
  · subst e
    refine ar_pr_ok (n := 2) hK hP hS' (ar_3 p 1) rfl rfl (by omega) (by omega) (by omega) (by omega) (ar_f2c p hp).1 (by omega) (fun _ v hv => ?_) (fun z => absurd z (by omega))
    rw [f1] at hv
    rw [f3]
    obtain ⟨c, d, b1, b2, b3, b4, b5, b6⟩ := v
    exact br_t (by rw [h]) (ar_366 hK hP (Or.inl ⟨rfl, rfl, rfl⟩) hp ho hT hR hv H)
  · subst e
    refine ar_pr_ok (n := 2) hK hP hS' (ar_3 p 1) rfl rfl (by omega) (by omega) (by omega) (by omega) (ar_f2c p hp).1 (by omega) (fun z => absurd z (by omega)) (fun _ v hv => ?_)
    obtain ⟨c, d, b1, b2, b3, b4, b5, b6⟩ := v
    exact br_f (by rw [nI_eq (by omega) (by omega)]; exact h) (ar_366 hK hP (Or.inr ⟨rfl, rfl, rfl⟩) hp ho hT hR hv H)
theorem ar_271 {post : Int32 → St0 → Prop} {mc ms kc ks : Nat} {x6 c d : Int32} {a1 a2 a3 a4 a5 a6 : Nat → Int32} {kn : Nat → Nat} {N p o r : Nat} (hK : ar_K kn N) (hP : ar_P kn N o) (hN : (o = r ∧ N = 1) ∨ (o ≠ r ∧ N = 2)) (hp : p < 19) (ho : o < 8) (hr : r < 8) (hT : ∀ c, c < N → nI (kn c) >>> ((3 : Int32) &&& 31) = x6) (hR : (nI (kn 0) &&& 7) = nI r) (hA : (nI r &&& (nI (kn 0) ^^^ (-1))) = 0) (hS : ar_S kn 1 (ar_s1 p) (c, d, a1, a2, a3, a4, a5, a6)) (H : post 1 ()) :
    wL_lawOf_271 post mc ms (nI r) x6 1 (nI o) (nI p) 0 1 kc ks c d a1 a2 a3 a4 a5 a6 := by
  unfold wL_lawOf_271
  obtain ⟨f1, f2, f3, f4⟩ := ar_f2 p hp
  obtain ⟨g1, g2, g3⟩ := ar_f2a p hp
  obtain ⟨t1, t2⟩ := ar_f2b p hp
  refine br_f (by decide) (br_t rfl (br_f (by decide) (ar_first hS rfl (by omega) (fun z => absurd z (by omega)) (fun _ => br_t ?_ (ar_al_ok (n := 4) (q := p) hS (ar_30 p) rfl (by omega) (by omega) (by omega) (nI_pos (by omega)) (nI_le (b := 7) (by omega) (by omega)) (fun c hc => ?_) (by omega) g2 (fun _ => br_f (by decide) (ar_al_ok (n := 5) (q := p) hS (ar_30 p) rfl (by omega) (by omega) (by omega) (by decide) (by decide) (fun c hc => ar_z0 _) (by omega) g2 (fun z => absurd (z.symm.trans t2) (by decide)) (fun _ => br_t rfl (ar_336 hK hP hN hp ho hr hT hR hS H)))) (fun z => absurd (z.symm.trans t1) (by decide)))))))
  · rw [f4]
    exact (ar_30 p).symm
  · rw [show c = 0 by omega]
    exact hA
theorem ar_208 {post : Int32 → St0 → Prop} {mc ms kc ks : Nat} {x3 x6 x7 c d : Int32} {a1 a2 a3 a4 a5 a6 : Nat → Int32} {kn : Nat → Nat} {N p o r : Nat} (hK1 : ar_K kn 1) (hK : ar_K kn N) (hP : ar_P kn N o) (hN : (o = r ∧ N = 1) ∨ (o ≠ r ∧ N = 2)) (hp : p < 19) (ho : o < 8) (hr : r < 8) (hT : ∀ c, c < N → nI (kn c) >>> ((3 : Int32) &&& 31) = x6) (hR : (nI (kn 0) &&& 7) = nI r) (hA : (nI r &&& (nI (kn 0) ^^^ (-1))) = 0) (h7 : x7 = nI (kn 0)) (h3 : (x3 &&& 65535) - (x3 &&& 65535) / 19 * 19 = nI p) (hS : ar_S kn 1 (ar_l 20) (c, d, a1, a2, a3, a4, a5, a6)) (H : post 1 ()) :
    wL_lawOf_208 post mc ms x3 (nI r) x6 x7 (nI o) 1 kc ks c d a1 a2 a3 a4 a5 a6 := by
  unfold wL_lawOf_208
  obtain ⟨f1, f2, f3, f4⟩ := ar_f2 p hp
  refine ⟨by decide, nm_r h3 (ar_map_ok (n := 2) (k := 0) hK1 hS (ar_3 p 1) rfl h7 (by omega) (by omega) (by omega) (by omega) (by omega) (fun _ v hv => ?_) (fun z => absurd z (by omega)))⟩
  rw [f2]
  have hv' : ar_S kn 1 (ar_s1 p) v := hv
  obtain ⟨c, d, b1, b2, b3, b4, b5, b6⟩ := v
  refine ar_areas hv' (br_t (by rw [f3]; rfl) (ar_len hv' rfl (by omega) (by rw [f4]; dsimp only; omega) (br_t ?_ (ar_mapped hv' (br_t (by rw [(ar_f2a p hp).1]; rfl) (ar_271 hK hP hN hp ho hr hT hR hA hv' H))))))
  rw [f4, show (3 * p, 3 * p + 4, 0).2.1 - (3 * p, 3 * p + 4, 0).1 = 4 by dsimp only; omega]
  rfl
theorem ar_37 {post : Int32 → St0 → Prop} {mc ms kc ks : Nat} {x2 x3 x6 x7 c d : Int32} {a1 a2 a3 a4 a5 a6 : Nat → Int32} {kn : Nat → Nat} {N p o r : Nat} (hK1 : ar_K kn 1) (hK : ar_K kn N) (hP : ar_P kn N o) (hN : (o = r ∧ N = 1) ∨ (o ≠ r ∧ N = 2)) (hp : p < 19) (ho : o < 8) (hr : r < 8) (hT : ∀ c, c < N → nI (kn c) >>> ((3 : Int32) &&& 31) = x6) (hR : (nI (kn 0) &&& 7) = nI r) (hA : (nI r &&& (nI (kn 0) ^^^ (-1))) = 0) (h7 : x7 = nI (kn 0)) (h2 : x2 &&& 7 = nI o) (h3 : (x3 &&& 65535) - (x3 &&& 65535) / 19 * 19 = nI p) (hS : ar_S kn 1 [] (c, d, a1, a2, a3, a4, a5, a6)) (H : post 1 ()) :
    ∃ n, wL_lawOf_37 post mc ms x2 x3 (nI r) x6 x7 kc ks n 1 0 c d a1 a2 a3 a4 a5 a6 := by
  refine pk_loop (fun n i (s : St2) => wL_lawOf_37 post mc ms x2 x3 (nI r) x6 x7 kc ks n 1 (nI i) s.1 s.2.1 s.2.2.1 s.2.2.2.1 s.2.2.2.2.1 s.2.2.2.2.2.1 s.2.2.2.2.2.2.1 s.2.2.2.2.2.2.2) (fun i s => ar_S kn 1 (ar_l i) s) 20 0 (c, d, a1, a2, a3, a4, a5, a6) (by omega) hS ?_ ?_
  · intro n s hs
    obtain ⟨c, d, b1, b2, b3, b4, b5, b6⟩ := s
    obtain ⟨f1, f2, f3, f4⟩ := ar_f1
    obtain ⟨g1, g2, g3, g4⟩ := ar_f1a
    obtain ⟨t1, t2⟩ := ar_f1b
    refine pk_le 20 20 (fun _ => nm_r h2 (br_f (by decide) (ar_areas hs (br_t (by rw [f1]; rfl) (ar_mapped hs (br_t (by rw [f2]; rfl) (ar_lf_ok hs f3 (br_t (by rw [f4]; rfl) (ar_map_ok (fi := 61) (n := 2) (k := 0) hK1 hs rfl rfl h7 (by omega) (by omega) (by omega) (by omega) (by omega) (fun z => absurd z (by omega)) (fun _ v hv => ?_)))))))))) (fun z => absurd z (by omega))
    obtain ⟨c', d', e1, e2, e3, e4, e5, e6⟩ := v
    refine br_t rfl (ar_place_full (h := 62) (n := 2) (k := 0) (q := 62) hK1 hv rfl rfl h7 (by omega) (by omega) (by omega) (by omega) g3 (by omega) (by omega) (fun v2 hv2 => ?_))
    obtain ⟨c', d', e1, e2, e3, e4, e5, e6⟩ := v2
    refine br_t rfl (ar_place_none (h := 0) (n := 7) (k := 0) hK1 hv2 rfl rfl h7 (by omega) (by omega) (by omega) (by omega) g4 g4 ?_)
    exact br_t rfl (ar_areaOf (pg := 57) (q := 19) hv2 rfl (by omega) (by omega) t1 (br_t rfl (ar_first (i := 20) hv2 rfl (by omega) (fun _ => br_t rfl (ar_tagNone (pg := 61) hv2 rfl (by omega) t2 (br_t rfl (ar_208 hK1 hK hP hN hp ho hr hT hR hA h7 h3 hv2 H)))) (fun z => absurd z (by omega)))))
  · intro n i s hi hs hw
    obtain ⟨c, d, b1, b2, b3, b4, b5, b6⟩ := s
    obtain ⟨f1, f2, f3⟩ := ar_f0 i hi
    refine pk_le 20 i (fun z => absurd z (by omega)) (fun _ => ar_map_ok (n := 1) (k := 0) hK1 hs (ar_30 i) rfl h7 (by omega) (by omega) (by omega) (by omega) (by omega) (fun _ v hv => ?_) (fun z => absurd z (by omega)))
    rw [f1] at hv
    rw [f3]
    obtain ⟨c', d', e1, e2, e3, e4, e5, e6⟩ := v
    exact br_f (by decide) (br_t rfl (nm_r (nI_1 i) (hw _ hv)))
theorem ar_lawOf {post : Int32 → St0 → Prop} (x0 x1 x2 x3 : Int32) (H : post 1 ()) : wpL_lawOf post 46 720 () x0 x1 x2 x3 := by
  obtain ⟨r, hr, er⟩ := pk_andE x0 (m := 7) 3 (by decide)
  obtain ⟨g, hg, eg⟩ := pk_andE x1 (m := 15) 4 (by decide)
  obtain ⟨o, ho, eo⟩ := pk_andE x2 (m := 7) 3 (by decide)
  obtain ⟨w, hw, ew⟩ := pk_andE x3 (m := 65535) 16 (by decide)
  have e3 : (x3 &&& 65535) - (x3 &&& 65535) / 19 * 19 = nI (w % 19) := by
    rw [ew]
    exact pk_rem (d := 19) (by omega) (by omega) (by omega)
  have hN : ∃ N, (o = r ∧ N = 1) ∨ (o ≠ r ∧ N = 2) := by
    by_cases h : o = r
    · exact ⟨1, Or.inl ⟨h, rfl⟩⟩
    · exact ⟨2, Or.inr ⟨h, rfl⟩⟩
  obtain ⟨N, hN⟩ := hN
  have hr' : r < 8 := hr
  have ho' : o < 8 := ho
  have hg' : g < 16 := hg
  refine ⟨by omega, by omega, 45, 712, by omega, by omega, ?_⟩
  refine ⟨by omega, by omega, by omega, by omega, by omega, by omega, by omega, by omega, by omega, by omega, by omega, by omega, ?_⟩
  refine nm_r er (nm_r eg (nm_r (e' := nI (r + 8 * g)) ?_ ?_))
  · rw [show (8 : Int32) = nI 8 from rfl, pk_mul, nI_add]
  · exact ar_37 (kn := ar_kn r o g) (ar_kK1 hr' ho' hg') (ar_kK hr' ho' hg' hN) (ar_kP hr' ho' hg' hN) hN (Nat.mod_lt _ (by omega)) ho' hr' (fun c _ => ar_kT hr' ho' hg' c) (ar_k1 r hr' g hg').1 (ar_k1 r hr' g hg').2.2 rfl eo e3 ⟨rfl, by decide, trivial⟩ H
theorem ar_cell {post : Int32 → Prop} {L : Nat} {xs : Nat → Int32} (hL : L ≤ 4) (i : Nat) (hi : i < 4) {x : Int32} (hx : x = nI i) (H : ∀ r, post r) : wpL_cellAt post L xs () x := by
  subst hx
  exact pk_le L i (fun _ => H _) (fun z => ⟨pk_in i L z, H _⟩)
theorem i_vc (xs : Nat → Int32) (L : Nat) (hL : L ≤ 4) : wpL_law (fun r => r = 1) L xs :=
  ar_cell hL 0 (by omega) rfl (fun r1 => ar_cell hL 1 (by omega) rfl (fun r2 => ar_cell hL 2 (by omega) rfl (fun r3 => ar_cell hL 3 (by omega) rfl (fun r4 => ⟨46, 720, by omega, by omega, ar_lawOf r1 r2 r3 r4 rfl⟩))))
end
