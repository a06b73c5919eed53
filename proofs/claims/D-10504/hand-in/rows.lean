section
/-! base: has, bodyFails, bodyHolds, putIn, putOut, ones, founded -/
section
variable {pr i o b mv kn : Int32} {M : Int64} {a1 a2 a3 a4 a5 a6 a7 a8 : Nat → Int32}
abbrev sm_bt (h : Nat) : Int32 := (1 : Int32) <<< (nI h &&& 31)
abbrev sm_co (h : Nat) : Int32 := 63 &&& (sm_bt h ^^^ (-1))
def sm_hz (p : Int32) (j0 : Nat) : Prop := ∀ j, j < 10 → j0 ≤ j → (p >>> (nI j &&& 31)) &&& 1 = 0
theorem sm_hz1 : sm_hz 1 1 := by
  unfold sm_hz
  decide +kernel
theorem sm_hz0 : sm_hz 0 0 := by
  unfold sm_hz
  decide +kernel
theorem sm_has0 {post : Int32 → Prop} {j : Nat} (hj : j < 10) (h : (pr >>> (nI j &&& 31)) &&& 1 = 0) (H : post 0) : wpX_has post (pr, i, o, b, mv, kn, M, a1, a2, a3, a4, a5, a6, a7, a8) (nI j) :=
  br_f (nI_pos (by omega)) (br_f (nI_ge (b := 10) hj (by decide)) (br_t h H))
theorem sm_has1 {post : Int32 → Prop} (H : post 1) : wpX_has post (1, i, o, b, mv, kn, M, a1, a2, a3, a4, a5, a6, a7, a8) 0 :=
  br_f (by decide) (br_f (by decide) (br_f (by decide) H))
theorem sm_bf0 {post : Int32 → Prop} (h1 : a3 0 &&& o = 0) (h2 : a4 0 &&& i = 0) (H : post 0) : wpX_bodyFails post (pr, i, o, b, mv, kn, M, a1, a2, a3, a4, a5, a6, a7, a8) 0 :=
  ⟨pk_in 0 10 (by omega), br_t h1 ⟨pk_in 0 10 (by omega), br_t h2 H⟩⟩
theorem sm_bf1 {post : Int32 → Prop} (h : ¬ (a3 0 &&& o = 0 ∧ a4 0 &&& i = 0)) (H : post 1) : wpX_bodyFails post (pr, i, o, b, mv, kn, M, a1, a2, a3, a4, a5, a6, a7, a8) 0 :=
  ⟨pk_in 0 10 (by omega), br_c (fun h1 => ⟨pk_in 0 10 (by omega), br_f (fun h2 => h ⟨h1, h2⟩) H⟩) (fun _ => H)⟩
theorem sm_bh1 {post : Int32 → Prop} (h1 : a3 0 &&& (i ^^^ (-1)) = 0) (h2 : a4 0 &&& (o ^^^ (-1)) = 0) (H : post 1) : wpX_bodyHolds post (pr, i, o, b, mv, kn, M, a1, a2, a3, a4, a5, a6, a7, a8) 0 :=
  ⟨pk_in 0 10 (by omega), br_t h1 ⟨pk_in 0 10 (by omega), br_t h2 H⟩⟩
theorem sm_bh0 {post : Int32 → Prop} (h : ¬ (a3 0 &&& (i ^^^ (-1)) = 0 ∧ a4 0 &&& (o ^^^ (-1)) = 0)) (H : post 0) : wpX_bodyHolds post (pr, i, o, b, mv, kn, M, a1, a2, a3, a4, a5, a6, a7, a8) 0 :=
  ⟨pk_in 0 10 (by omega), br_c (fun h1 => ⟨pk_in 0 10 (by omega), br_f (fun h2 => h ⟨h1, h2⟩) H⟩) (fun _ => H)⟩
/-! putOut: nothing new; new and not broken; broken before -/
theorem sm_po_s {post : St2 → Prop} {x : Int32} (h : x &&& (o ^^^ (-1)) = 0) (hio : i &&& o = 0) (H : post (pr, i, o, 0, mv, kn, M, a1, a2, a3, a4, a5, a6, a7, a8)) : wpX_putOut post (pr, i, o, 0, mv, kn, M, a1, a2, a3, a4, a5, a6, a7, a8) x :=
  br_t h (br_t hio (nm_r (show (0 : Int32) ||| 0 = 0 by decide) ⟨rfl, rfl, H⟩))
theorem sm_po_c {post : St2 → Prop} {x o' : Int32} (h : ¬ x &&& (o ^^^ (-1)) = 0) (e : o ||| x = o') (hio : i &&& o' = 0) (H : post (pr, i, o', 0, 1, kn, M, a1, a2, a3, a4, a5, a6, a7, a8)) : wpX_putOut post (pr, i, o, 0, mv, kn, M, a1, a2, a3, a4, a5, a6, a7, a8) x :=
  br_f h (nm_r e (br_t hio (nm_r (show (0 : Int32) ||| 0 = 0 by decide) ⟨rfl, rfl, H⟩)))
theorem sm_po_26b {post : St2 → Prop} (H : post (pr, i, o, 1, mv, kn, M, a1, a2, a3, a4, a5, a6, a7, a8)) : wX_putOut_26 post pr i o 1 mv kn M a1 a2 a3 a4 a5 a6 a7 a8 :=
  br_c (fun _ => nm_r (show (1 : Int32) ||| 0 = 1 by decide) ⟨rfl, rfl, H⟩) (fun _ => nm_r (show (1 : Int32) ||| 1 = 1 by decide) ⟨rfl, rfl, H⟩)
theorem sm_po_b {post : St2 → Prop} {x : Int32} (H : ∀ o' mv', post (pr, i, o', 1, mv', kn, M, a1, a2, a3, a4, a5, a6, a7, a8)) : wpX_putOut post (pr, i, o, 1, mv, kn, M, a1, a2, a3, a4, a5, a6, a7, a8) x :=
  br_c (fun _ => sm_po_26b (H _ _)) (fun _ => nm_e (sm_po_26b (H _ _)))
/-! putIn: nothing new; new and not broken; new and broken -/
theorem sm_pi_s {post : St2 → Prop} {x : Int32} (h : x &&& (i ^^^ (-1)) = 0) (hio : i &&& o = 0) (H : post (pr, i, o, 0, mv, kn, M, a1, a2, a3, a4, a5, a6, a7, a8)) : wpX_putIn post (pr, i, o, 0, mv, kn, M, a1, a2, a3, a4, a5, a6, a7, a8) x :=
  br_t h (br_t hio (nm_r (show (0 : Int32) ||| 0 = 0 by decide) ⟨rfl, rfl, H⟩))
theorem sm_pi_c {post : St2 → Prop} {x i' : Int32} (h : ¬ x &&& (i ^^^ (-1)) = 0) (e : i ||| x = i') (hio : i' &&& o = 0) (H : post (pr, i', o, 0, 1, kn, M, a1, a2, a3, a4, a5, a6, a7, a8)) : wpX_putIn post (pr, i, o, 0, mv, kn, M, a1, a2, a3, a4, a5, a6, a7, a8) x :=
  br_f h (nm_r e (br_t hio (nm_r (show (0 : Int32) ||| 0 = 0 by decide) ⟨rfl, rfl, H⟩)))
theorem sm_pi_x {post : St2 → Prop} {x i' : Int32} (h : ¬ x &&& (i ^^^ (-1)) = 0) (e : i ||| x = i') (hio : ¬ i' &&& o = 0) (H : post (pr, i', o, 1, 1, kn, M, a1, a2, a3, a4, a5, a6, a7, a8)) : wpX_putIn post (pr, i, o, 0, mv, kn, M, a1, a2, a3, a4, a5, a6, a7, a8) x :=
  br_f h (nm_r e (br_f hio (nm_r (show (0 : Int32) ||| 1 = 1 by decide) ⟨rfl, rfl, H⟩)))
/-! ones -/
def sm_on (x : Int32) : Nat → Int32
  | 0 => 0
  | j + 1 => sm_on x j + ((x >>> (nI j &&& 31)) &&& 1)
theorem sm_ones {post : Int32 → Prop} {x : Int32} (H : post (sm_on x 6)) : wpX_ones post () x :=
  pk_loop (fun n j s => wX_ones_4 post x n s (nI j)) (fun j s => s = sm_on x j) 6 0 0 (by omega) rfl
    (fun n s h => br_t (by decide) (by rw [h]; exact H))
    (fun n j s hj h hw => br_f (nI_ge (b := 6) hj (by decide)) (nm_e (nm_r (nI_1 j) (hw _ (by rw [h]; rfl)))))
theorem sm_on0 : sm_on 0 6 = 0 := by decide +kernel
theorem sm_on2 : ∀ p, p < 64 → ∀ q, q < 64 → p ≠ 0 → q ≠ 0 → ¬ sm_on (nI p) 6 + sm_on (nI q) 6 = 1 := by decide +kernel
/-! founded -/
theorem sm_fd12s {post : Int32 → Prop} {J4 : Int32 → Int32 → Prop} {x1 x2 x2' : Int32} {j0 : Nat} (hz : sm_hz pr j0) (h10 : j0 ≤ 10) (hx : x2 + 1 = x2') (H : J4 x1 x2') : ∃ n, wX_founded_12 post J4 x2 pr i o b mv kn M a1 a2 a3 a4 a5 a6 a7 a8 n x1 (nI j0) :=
  pk_loop (σ := Unit) (fun n j _ => wX_founded_12 post J4 x2 pr i o b mv kn M a1 a2 a3 a4 a5 a6 a7 a8 n x1 (nI j)) (fun j _ => j0 ≤ j) 10 j0 () h10 (Nat.le_refl _)
    (fun n _ _ => br_t (by decide) (nm_r hx H))
    (fun n j _ hj hl hw => br_f (nI_ge (b := 10) hj (by decide)) (sm_has0 hj (hz j hj hl) (br_t rfl (br_t rfl (nm_r (nI_1 j) (hw () (by omega)))))))
theorem sm_fd12a {post : Int32 → Prop} {J4 : Int32 → Int32 → Prop} {x1 x2 x2' : Int32} (hk : ¬ a1 0 = 2) (h3 : a3 0 &&& o = 0) (h4 : a4 0 &&& i = 0) (ho : (o >>> (a2 0 &&& 31)) &&& 1 = 0) (hp : a3 0 &&& (x1 ^^^ (-1)) = 0)
    (hx : x2 + 1 = x2') (H : J4 (x1 ||| ((1 : Int32) <<< (a2 0 &&& 31))) x2') : ∃ n, wX_founded_12 post J4 x2 1 i o b mv kn M a1 a2 a3 a4 a5 a6 a7 a8 n x1 0 := by
  obtain ⟨n, hn⟩ := sm_fd12s (post := post) (J4 := J4) (pr := 1) (i := i) (o := o) (b := b) (mv := mv) (kn := kn) (M := M) (a1 := a1) (a2 := a2) (a3 := a3) (a4 := a4) (a5 := a5) (a6 := a6) (a7 := a7) (a8 := a8) sm_hz1 (by decide) hx H
  exact ⟨n + 1, br_f (by decide) (sm_has1 (br_f (by decide) ⟨pk_in 0 10 (by omega), br_f hk (sm_bf0 h3 h4 (br_t rfl ⟨pk_in 0 10 (by omega), br_t ho (br_f (by decide) ⟨pk_in 0 10 (by omega), br_t hp ⟨pk_in 0 10 (by omega), nm_e (nm_r (show (0 : Int32) + 1 = nI 1 from rfl) hn)⟩⟩)⟩))⟩))⟩
theorem sm_fd12b {post : Int32 → Prop} {J4 : Int32 → Int32 → Prop} {x1 x2 x2' : Int32} (h : ¬ (¬ a1 0 = 2 ∧ (a3 0 &&& o = 0 ∧ a4 0 &&& i = 0) ∧ (o >>> (a2 0 &&& 31)) &&& 1 = 0 ∧ a3 0 &&& (x1 ^^^ (-1)) = 0))
    (hx : x2 + 1 = x2') (H : J4 x1 x2') : ∃ n, wX_founded_12 post J4 x2 1 i o b mv kn M a1 a2 a3 a4 a5 a6 a7 a8 n x1 0 := by
  obtain ⟨n, hn⟩ := sm_fd12s (post := post) (J4 := J4) (pr := 1) (i := i) (o := o) (b := b) (mv := mv) (kn := kn) (M := M) (a1 := a1) (a2 := a2) (a3 := a3) (a4 := a4) (a5 := a5) (a6 := a6) (a7 := a7) (a8 := a8) sm_hz1 (by decide) hx H
  have e : (0 : Int32) + 1 = nI 1 := rfl
  refine ⟨n + 1, br_f (by decide) (sm_has1 (br_f (by decide) ⟨pk_in 0 10 (by omega), br_c (fun _ => br_t rfl (nm_r e hn)) (fun hk => ?_)⟩))⟩
  by_cases hf : a3 0 &&& o = 0 ∧ a4 0 &&& i = 0
  · exact sm_bf0 hf.1 hf.2 (br_t rfl ⟨pk_in 0 10 (by omega), br_c (fun ho => br_f (by decide) ⟨pk_in 0 10 (by omega), br_f (fun hp => h ⟨hk, hf, ho, hp⟩) (nm_r e hn)⟩) (fun _ => br_t rfl (nm_r e hn))⟩)
  · exact sm_bf1 hf (br_f (by decide) (br_t rfl (nm_r e hn)))
/-- no rule -/
theorem sm_fd0 {post : Int32 → Prop} (H : post 0) : wpX_founded post (0, i, o, b, mv, kn, M, a1, a2, a3, a4, a5, a6, a7, a8) :=
  pk_loop (fun n j s => wX_founded_4 post 0 i o b mv kn M a1 a2 a3 a4 a5 a6 a7 a8 n s (nI j)) (fun _ s => s = 0) 6 0 0 (by omega) rfl
    (fun n s h => br_t (by decide) (by rw [h]; exact H))
    (fun n j s hj h hw => br_f (nI_ge (b := 6) hj (by decide)) (sm_fd12s (j0 := 0) sm_hz0 (by decide) (nI_1 j) (hw s h)))
/-- the rule can't bring its head in -/
theorem sm_fdz {post : Int32 → Prop} (h : ¬ (¬ a1 0 = 2 ∧ (a3 0 &&& o = 0 ∧ a4 0 &&& i = 0) ∧ (o >>> (a2 0 &&& 31)) &&& 1 = 0 ∧ a3 0 &&& ((0 : Int32) ^^^ (-1)) = 0)) (H : post 0) : wpX_founded post (1, i, o, b, mv, kn, M, a1, a2, a3, a4, a5, a6, a7, a8) :=
  pk_loop (fun n j s => wX_founded_4 post 1 i o b mv kn M a1 a2 a3 a4 a5 a6 a7 a8 n s (nI j)) (fun _ s => s = 0) 6 0 0 (by omega) rfl
    (fun n s e => br_t (by decide) (by rw [e]; exact H))
    (fun n j s hj e hw => br_f (nI_ge (b := 6) hj (by decide)) (sm_fd12b (by rw [e]; exact h) (nI_1 j) (hw s e)))
/-- the rule brings its head in -/
theorem sm_fdb {post : Int32 → Prop} {h : Nat} (hh : h < 6) (e2 : a2 0 = nI h) (hk : ¬ a1 0 = 2) (h3 : a3 0 = 0) (h4 : a4 0 &&& i = 0) (ho : (o >>> (nI h &&& 31)) &&& 1 = 0) (H : post (sm_bt h)) : wpX_founded post (1, i, o, b, mv, kn, M, a1, a2, a3, a4, a5, a6, a7, a8) := by
  have z : ∀ x : Int32, a3 0 &&& x = 0 := fun x => by
    rw [h3]
    exact Int32.zero_and
  have q1 : (0 : Int32) ||| sm_bt h = sm_bt h := Int32.zero_or
  have q2 : sm_bt h ||| sm_bt h = sm_bt h := Int32.or_self
  refine pk_loop (fun n j s => wX_founded_4 post 1 i o b mv kn M a1 a2 a3 a4 a5 a6 a7 a8 n s (nI j)) (fun j s => s = if j = 0 then 0 else sm_bt h) 6 0 0 (by omega) rfl
    (fun n s e => br_t (by decide) (by rw [e]; exact H))
    (fun n j s hj e hw => br_f (nI_ge (b := 6) hj (by decide)) (sm_fd12a hk (z _) h4 (by rw [e2]; exact ho) (z _) (nI_1 j) (hw _ ?_)))
  rw [e, e2]
  by_cases ej : j = 0
  · rw [if_pos ej, if_neg (by omega)]
    exact q1
  · rw [if_neg ej, if_neg (by omega)]
    exact q2
end
end
section
/-! forward, backward, one round of conclude -/
section
variable {pr i o b mv kn : Int32} {M : Int64} {a1 a2 a3 a4 a5 a6 a7 a8 : Nat → Int32}
theorem sm_f29_0 {post : St2 → Prop} (hk : ¬ a1 0 = 2) (H : post (pr, i, o, 0, mv, kn, M, a1, a2, a3, a4, a5, a6, a7, a8)) : wX_forward_29 post 0 pr i o 0 mv kn M a1 a2 a3 a4 a5 a6 a7 a8 :=
  ⟨pk_in 0 10 (by omega), br_f hk (nm_r (show (0 : Int32) ||| 0 = 0 by decide) ⟨rfl, rfl, H⟩)⟩
theorem sm_f29_1 {post : St2 → Prop} (hk : ¬ a1 0 = 2) (H : post (pr, i, o, 1, mv, kn, M, a1, a2, a3, a4, a5, a6, a7, a8)) : wX_forward_29 post 0 pr i o 1 mv kn M a1 a2 a3 a4 a5 a6 a7 a8 :=
  ⟨pk_in 0 10 (by omega), br_f hk (nm_r (show (1 : Int32) ||| 0 = 1 by decide) ⟨rfl, rfl, H⟩)⟩
theorem sm_f94z {post : St2 → Prop} (H : post (pr, i, o, b, mv, kn, M, a1, a2, a3, a4, a5, a6, a7, a8)) : wX_forward_94 post 0 0 pr i o b mv kn M a1 a2 a3 a4 a5 a6 a7 a8 :=
  ⟨pk_in 0 10 (by omega), nm_e ⟨pk_in 0 10 (by omega), nm_e (br_t rfl H)⟩⟩
theorem sm_f94f {post : St2 → Prop} (hf : ¬ (a3 0 &&& o = 0 ∧ a4 0 &&& i = 0)) (H : post (pr, i, o, b, mv, kn, M, a1, a2, a3, a4, a5, a6, a7, a8)) : wX_forward_94 post 0 1 pr i o b mv kn M a1 a2 a3 a4 a5 a6 a7 a8 :=
  ⟨pk_in 0 10 (by omega), nm_e ⟨pk_in 0 10 (by omega), nm_e (br_f (by decide) (sm_bf1 hf (br_f (by decide) H)))⟩⟩
/-- a choice: nothing -/
theorem sm_fw_ch {post : St2 → Prop} (hk : a1 0 = 1) (H : post (pr, i, o, 0, mv, kn, M, a1, a2, a3, a4, a5, a6, a7, a8)) : wpX_forward post (pr, i, o, 0, mv, kn, M, a1, a2, a3, a4, a5, a6, a7, a8) 0 := by
  have k0 : ¬ a1 0 = 0 := by
    rw [hk]
    decide
  have k2 : ¬ a1 0 = 2 := by
    rw [hk]
    decide
  unfold wpX_forward
  by_cases hb : a3 0 &&& (i ^^^ (-1)) = 0 ∧ a4 0 &&& (o ^^^ (-1)) = 0
  · exact sm_bh1 hb.1 hb.2 (br_f (by decide) ⟨pk_in 0 10 (by omega), br_f k0 (sm_f29_0 k2 H)⟩)
  · exact sm_bh0 hb (br_t rfl ⟨pk_in 0 10 (by omega), br_f k2 ⟨pk_in 0 10 (by omega), br_f k0 (sm_f94z H)⟩⟩)
/-- the body doesn't hold and fails: nothing -/
theorem sm_fw_fl {post : St2 → Prop} (hb : ¬ (a3 0 &&& (i ^^^ (-1)) = 0 ∧ a4 0 &&& (o ^^^ (-1)) = 0)) (hf : ¬ (a3 0 &&& o = 0 ∧ a4 0 &&& i = 0)) (H : post (pr, i, o, b, mv, kn, M, a1, a2, a3, a4, a5, a6, a7, a8)) : wpX_forward post (pr, i, o, b, mv, kn, M, a1, a2, a3, a4, a5, a6, a7, a8) 0 := by
  unfold wpX_forward
  exact sm_bh0 hb (br_t rfl ⟨pk_in 0 10 (by omega), br_c (fun _ => sm_f94f hf H) (fun _ => ⟨pk_in 0 10 (by omega), br_c (fun _ => ⟨pk_in 0 10 (by omega), br_c (fun _ => sm_f94z H) (fun _ => sm_f94f hf H)⟩) (fun _ => sm_f94z H)⟩)⟩)
/-- plain, the body doesn't hold, the head isn't out: nothing -/
theorem sm_fw_n0 {post : St2 → Prop} (hk : a1 0 = 0) (hb : ¬ (a3 0 &&& (i ^^^ (-1)) = 0 ∧ a4 0 &&& (o ^^^ (-1)) = 0)) (ho : (o >>> (a2 0 &&& 31)) &&& 1 = 0) (H : post (pr, i, o, b, mv, kn, M, a1, a2, a3, a4, a5, a6, a7, a8)) : wpX_forward post (pr, i, o, b, mv, kn, M, a1, a2, a3, a4, a5, a6, a7, a8) 0 := by
  have k2 : ¬ a1 0 = 2 := by
    rw [hk]
    decide
  unfold wpX_forward
  exact sm_bh0 hb (br_t rfl ⟨pk_in 0 10 (by omega), br_f k2 ⟨pk_in 0 10 (by omega), br_t hk ⟨pk_in 0 10 (by omega), br_t ho (sm_f94z H)⟩⟩⟩)
/-- plain, the body holds, the head is in -/
theorem sm_fw_hs {post : St2 → Prop} (hk : a1 0 = 0) (h3 : a3 0 &&& (i ^^^ (-1)) = 0) (h4 : a4 0 &&& (o ^^^ (-1)) = 0) (h : ((1 : Int32) <<< (a2 0 &&& 31)) &&& (i ^^^ (-1)) = 0) (hio : i &&& o = 0) (H : post (pr, i, o, 0, mv, kn, M, a1, a2, a3, a4, a5, a6, a7, a8)) : wpX_forward post (pr, i, o, 0, mv, kn, M, a1, a2, a3, a4, a5, a6, a7, a8) 0 := by
  have k2 : ¬ a1 0 = 2 := by
    rw [hk]
    decide
  unfold wpX_forward
  exact sm_bh1 h3 h4 (br_f (by decide) ⟨pk_in 0 10 (by omega), br_t hk ⟨pk_in 0 10 (by omega), sm_pi_s h hio (sm_f29_0 k2 H)⟩⟩)
/-- plain, the body holds, the head comes in -/
theorem sm_fw_hc {post : St2 → Prop} {i' : Int32} (hk : a1 0 = 0) (h3 : a3 0 &&& (i ^^^ (-1)) = 0) (h4 : a4 0 &&& (o ^^^ (-1)) = 0) (h : ¬ ((1 : Int32) <<< (a2 0 &&& 31)) &&& (i ^^^ (-1)) = 0) (e : i ||| ((1 : Int32) <<< (a2 0 &&& 31)) = i') (hio : i' &&& o = 0) (H : post (pr, i', o, 0, 1, kn, M, a1, a2, a3, a4, a5, a6, a7, a8)) : wpX_forward post (pr, i, o, 0, mv, kn, M, a1, a2, a3, a4, a5, a6, a7, a8) 0 := by
  have k2 : ¬ a1 0 = 2 := by
    rw [hk]
    decide
  unfold wpX_forward
  exact sm_bh1 h3 h4 (br_f (by decide) ⟨pk_in 0 10 (by omega), br_t hk ⟨pk_in 0 10 (by omega), sm_pi_c h e hio (sm_f29_0 k2 H)⟩⟩)
/-- plain, the body holds, the head comes in, it was out -/
theorem sm_fw_hx {post : St2 → Prop} {i' : Int32} (hk : a1 0 = 0) (h3 : a3 0 &&& (i ^^^ (-1)) = 0) (h4 : a4 0 &&& (o ^^^ (-1)) = 0) (h : ¬ ((1 : Int32) <<< (a2 0 &&& 31)) &&& (i ^^^ (-1)) = 0) (e : i ||| ((1 : Int32) <<< (a2 0 &&& 31)) = i') (hio : ¬ i' &&& o = 0) (H : post (pr, i', o, 1, 1, kn, M, a1, a2, a3, a4, a5, a6, a7, a8)) : wpX_forward post (pr, i, o, 0, mv, kn, M, a1, a2, a3, a4, a5, a6, a7, a8) 0 := by
  have k2 : ¬ a1 0 = 2 := by
    rw [hk]
    decide
  unfold wpX_forward
  exact sm_bh1 h3 h4 (br_f (by decide) ⟨pk_in 0 10 (by omega), br_t hk ⟨pk_in 0 10 (by omega), sm_pi_x h e hio (sm_f29_1 k2 H)⟩⟩)
/-- a ban, the body holds: broken -/
theorem sm_fw_b {post : St2 → Prop} (hk : a1 0 = 2) (h3 : a3 0 &&& (i ^^^ (-1)) = 0) (h4 : a4 0 &&& (o ^^^ (-1)) = 0) (H : post (pr, i, o, 1, mv, kn, M, a1, a2, a3, a4, a5, a6, a7, a8)) : wpX_forward post (pr, i, o, 0, mv, kn, M, a1, a2, a3, a4, a5, a6, a7, a8) 0 := by
  have k0 : ¬ a1 0 = 0 := by
    rw [hk]
    decide
  unfold wpX_forward
  exact sm_bh1 h3 h4 (br_f (by decide) ⟨pk_in 0 10 (by omega), br_f k0 ⟨pk_in 0 10 (by omega), br_t hk (nm_r (show (0 : Int32) ||| 1 = 1 by decide) ⟨rfl, rfl, H⟩)⟩⟩)
/-- a ban, the body is unsettled, more than one atom is: nothing -/
theorem sm_fw_bm {post : St2 → Prop} (hk : a1 0 = 2) (hb : ¬ (a3 0 &&& (i ^^^ (-1)) = 0 ∧ a4 0 &&& (o ^^^ (-1)) = 0)) (h3 : a3 0 &&& o = 0) (h4 : a4 0 &&& i = 0) (hs : ¬ sm_on (a3 0 &&& (i ^^^ (-1))) 6 + sm_on (a4 0 &&& (o ^^^ (-1))) 6 = 1) (H : post (pr, i, o, b, mv, kn, M, a1, a2, a3, a4, a5, a6, a7, a8)) : wpX_forward post (pr, i, o, b, mv, kn, M, a1, a2, a3, a4, a5, a6, a7, a8) 0 := by
  unfold wpX_forward
  exact sm_bh0 hb (br_t rfl ⟨pk_in 0 10 (by omega), br_t hk ⟨pk_in 0 10 (by omega), nm_e ⟨pk_in 0 10 (by omega), nm_e (br_f (by decide) (sm_bf0 h3 h4 (br_t rfl (sm_ones (sm_ones (br_f hs H))))))⟩⟩⟩)
/-- a ban, one positive atom is unsettled: it goes out -/
theorem sm_fw_bp {post : St2 → Prop} {o' : Int32} (hk : a1 0 = 2) (hb : ¬ (a3 0 &&& (i ^^^ (-1)) = 0 ∧ a4 0 &&& (o ^^^ (-1)) = 0)) (h3 : a3 0 &&& o = 0) (h4 : a4 0 &&& i = 0) (hs : sm_on (a3 0 &&& (i ^^^ (-1))) 6 + sm_on (a4 0 &&& (o ^^^ (-1))) 6 = 1)
    (n1 : ¬ (a3 0 &&& (i ^^^ (-1))) &&& (o ^^^ (-1)) = 0) (eo : o ||| (a3 0 &&& (i ^^^ (-1))) = o') (hio : i &&& o' = 0) (n2 : (a4 0 &&& (o ^^^ (-1))) &&& (i ^^^ (-1)) = 0) (H : post (pr, i, o', 0, 1, kn, M, a1, a2, a3, a4, a5, a6, a7, a8)) : wpX_forward post (pr, i, o, 0, mv, kn, M, a1, a2, a3, a4, a5, a6, a7, a8) 0 := by
  unfold wpX_forward
  exact sm_bh0 hb (br_t rfl ⟨pk_in 0 10 (by omega), br_t hk ⟨pk_in 0 10 (by omega), nm_e ⟨pk_in 0 10 (by omega), nm_e (br_f (by decide) (sm_bf0 h3 h4 (br_t rfl (sm_ones (sm_ones (br_t hs (sm_po_c n1 eo hio (sm_pi_s n2 hio H))))))))⟩⟩⟩)
/-- a ban, one negative atom is unsettled: it comes in -/
theorem sm_fw_bn {post : St2 → Prop} {i' : Int32} (hk : a1 0 = 2) (hb : ¬ (a3 0 &&& (i ^^^ (-1)) = 0 ∧ a4 0 &&& (o ^^^ (-1)) = 0)) (h3 : a3 0 &&& o = 0) (h4 : a4 0 &&& i = 0) (hs : sm_on (a3 0 &&& (i ^^^ (-1))) 6 + sm_on (a4 0 &&& (o ^^^ (-1))) 6 = 1)
    (n1 : (a3 0 &&& (i ^^^ (-1))) &&& (o ^^^ (-1)) = 0) (hio : i &&& o = 0) (n2 : ¬ (a4 0 &&& (o ^^^ (-1))) &&& (i ^^^ (-1)) = 0) (ei : i ||| (a4 0 &&& (o ^^^ (-1))) = i') (hio' : i' &&& o = 0) (H : post (pr, i', o, 0, 1, kn, M, a1, a2, a3, a4, a5, a6, a7, a8)) : wpX_forward post (pr, i, o, 0, mv, kn, M, a1, a2, a3, a4, a5, a6, a7, a8) 0 := by
  unfold wpX_forward
  exact sm_bh0 hb (br_t rfl ⟨pk_in 0 10 (by omega), br_t hk ⟨pk_in 0 10 (by omega), nm_e ⟨pk_in 0 10 (by omega), nm_e (br_f (by decide) (sm_bf0 h3 h4 (br_t rfl (sm_ones (sm_ones (br_t hs (sm_po_s n1 hio (sm_pi_c n2 ei hio' H))))))))⟩⟩⟩)
/-! backward -/
theorem sm_bw_s {post : St2 → Prop} {a : Nat} (h : (i >>> (nI a &&& 31)) &&& 1 = 0) (H : post (pr, i, o, b, mv, kn, M, a1, a2, a3, a4, a5, a6, a7, a8)) : wpX_backward post (pr, i, o, b, mv, kn, M, a1, a2, a3, a4, a5, a6, a7, a8) (nI a) := br_t h H
theorem sm_bw19z {post : St2 → Prop} {x1 x2 : Int32} {j0 : Nat} (hz : sm_hz pr j0) (h10 : j0 ≤ 10) (H : post (pr, i, o, 1, mv, kn, M, a1, a2, a3, a4, a5, a6, a7, a8)) : ∃ n, wX_backward_19 post x1 pr i o b mv kn M a1 a2 a3 a4 a5 a6 a7 a8 n x2 0 (nI j0) :=
  pk_loop (σ := Unit) (fun n j _ => wX_backward_19 post x1 pr i o b mv kn M a1 a2 a3 a4 a5 a6 a7 a8 n x2 0 (nI j)) (fun j _ => j0 ≤ j) 10 j0 () h10 (Nat.le_refl _)
    (fun n _ _ => br_t (by decide) (br_t rfl H))
    (fun n j _ hj hl hw => br_f (nI_ge (b := 10) hj (by decide)) (sm_has0 hj (hz j hj hl) (br_t rfl (nm_r (nI_1 j) (hw () (by omega))))))
theorem sm_bw19o {post : St2 → Prop} {x1 : Int32} {j0 : Nat} (hz : sm_hz pr j0) (h10 : j0 ≤ 10) (h3 : a3 0 &&& (i ^^^ (-1)) = 0) (h4 : a4 0 &&& (o ^^^ (-1)) = 0) (hio : i &&& o = 0) (H : post (pr, i, o, 0, mv, kn, M, a1, a2, a3, a4, a5, a6, a7, a8)) : ∃ n, wX_backward_19 post x1 pr i o 0 mv kn M a1 a2 a3 a4 a5 a6 a7 a8 n 0 1 (nI j0) :=
  pk_loop (σ := Unit) (fun n j _ => wX_backward_19 post x1 pr i o 0 mv kn M a1 a2 a3 a4 a5 a6 a7 a8 n 0 1 (nI j)) (fun j _ => j0 ≤ j) 10 j0 () h10 (Nat.le_refl _)
    (fun n _ _ => br_t (by decide) (br_f (by decide) (br_t rfl ⟨pk_in 0 10 (by omega), sm_pi_s h3 hio ⟨pk_in 0 10 (by omega), sm_po_s h4 hio H⟩⟩)))
    (fun n j _ hj hl hw => br_f (nI_ge (b := 10) hj (by decide)) (sm_has0 hj (hz j hj hl) (br_t rfl (nm_r (nI_1 j) (hw () (by omega))))))
/-- an atom that is in, and no rule can bring it in -/
theorem sm_bw_x {post : St2 → Prop} {a : Nat} (h : ¬ (i >>> (nI a &&& 31)) &&& 1 = 0) (hx : ¬ (¬ a1 0 = 2 ∧ a2 0 = nI a ∧ a3 0 &&& o = 0 ∧ a4 0 &&& i = 0)) (H : post (1, i, o, 1, mv, kn, M, a1, a2, a3, a4, a5, a6, a7, a8)) : wpX_backward post (1, i, o, b, mv, kn, M, a1, a2, a3, a4, a5, a6, a7, a8) (nI a) := by
  obtain ⟨n, hn⟩ := sm_bw19z (post := post) (x1 := nI a) (x2 := -1) (pr := 1) (i := i) (o := o) (b := b) (mv := mv) (kn := kn) (M := M) (a1 := a1) (a2 := a2) (a3 := a3) (a4 := a4) (a5 := a5) (a6 := a6) (a7 := a7) (a8 := a8) sm_hz1 (by decide) H
  have e : (0 : Int32) + 1 = nI 1 := rfl
  refine br_f h ⟨n + 1, br_f (by decide) (sm_has1 (br_f (by decide) ⟨pk_in 0 10 (by omega), br_c (fun _ => nm_r e hn) (fun hk => ⟨pk_in 0 10 (by omega), br_c (fun ha => ?_) (fun _ => nm_r e hn)⟩)⟩))⟩
  exact sm_bf1 (fun hf => hx ⟨hk, ha, hf⟩) (br_f (by decide) (nm_r e hn))
/-- an atom that is in, the rule brings it in, its body holds -/
theorem sm_bw_o {post : St2 → Prop} {a : Nat} (h : ¬ (i >>> (nI a &&& 31)) &&& 1 = 0) (hk : ¬ a1 0 = 2) (ha : a2 0 = nI a) (f3 : a3 0 &&& o = 0) (f4 : a4 0 &&& i = 0) (h3 : a3 0 &&& (i ^^^ (-1)) = 0) (h4 : a4 0 &&& (o ^^^ (-1)) = 0) (hio : i &&& o = 0) (H : post (1, i, o, 0, mv, kn, M, a1, a2, a3, a4, a5, a6, a7, a8)) : wpX_backward post (1, i, o, 0, mv, kn, M, a1, a2, a3, a4, a5, a6, a7, a8) (nI a) := by
  obtain ⟨n, hn⟩ := sm_bw19o (post := post) (x1 := nI a) (pr := 1) (i := i) (o := o) (mv := mv) (kn := kn) (M := M) (a1 := a1) (a2 := a2) (a3 := a3) (a4 := a4) (a5 := a5) (a6 := a6) (a7 := a7) (a8 := a8) sm_hz1 (by decide) h3 h4 hio H
  have e : (0 : Int32) + 1 = nI 1 := rfl
  exact br_f h ⟨n + 1, br_f (by decide) (sm_has1 (br_f (by decide) ⟨pk_in 0 10 (by omega), br_f hk ⟨pk_in 0 10 (by omega), br_t ha (sm_bf0 f3 f4 (br_t rfl (nm_r (show (0 : Int32) + 1 = 1 by decide) (nm_r e hn))))⟩⟩))⟩
/-! conclude -/
theorem sm_61s {post : St2 → Prop} {J7 : Int32 → Int32 → Int32 → Int32 → Int32 → Int32 → Int32 → Int64 → (Nat → Int32) → (Nat → Int32) → (Nat → Int32) → (Nat → Int32) → (Nat → Int32) → (Nat → Int32) → (Nat → Int32) → (Nat → Int32) → Prop} {x1 x1' F i' o' b' mv' : Int32} (hx : x1 + 1 = x1')
    (hA : ∀ a, a < 6 → ∀ post' : St2 → Prop, post' (pr, i, o, b, mv, kn, M, a1, a2, a3, a4, a5, a6, a7, a8) → wpX_backward post' (pr, i, o, b, mv, kn, M, a1, a2, a3, a4, a5, a6, a7, a8) (nI a))
    (hF : ∀ post' : Int32 → Prop, post' F → wpX_founded post' (pr, i, o, b, mv, kn, M, a1, a2, a3, a4, a5, a6, a7, a8))
    (hO : ∀ post' : St2 → Prop, post' (pr, i', o', b', mv', kn, M, a1, a2, a3, a4, a5, a6, a7, a8) → wpX_putOut post' (pr, i, o, b, mv, kn, M, a1, a2, a3, a4, a5, a6, a7, a8) (63 &&& (F ^^^ (-1))))
    (H : J7 x1' pr i' o' b' mv' kn M a1 a2 a3 a4 a5 a6 a7 a8) : ∃ n, wX_conclude_61 post J7 x1 n 0 pr i o b mv kn M a1 a2 a3 a4 a5 a6 a7 a8 :=
  pk_loop (σ := Unit) (fun n a _ => wX_conclude_61 post J7 x1 n (nI a) pr i o b mv kn M a1 a2 a3 a4 a5 a6 a7 a8) (fun _ _ => True) 6 0 () (by omega) trivial
    (fun n _ _ => br_t (by decide) (hF _ (nm_e (hO _ (nm_r hx H)))))
    (fun n a _ ha _ hw => br_f (nI_ge (b := 6) ha (by decide)) (hA a ha _ (nm_r (nI_1 a) (hw () trivial))))
theorem sm_61b {post : St2 → Prop} {J7 : Int32 → Int32 → Int32 → Int32 → Int32 → Int32 → Int32 → Int64 → (Nat → Int32) → (Nat → Int32) → (Nat → Int32) → (Nat → Int32) → (Nat → Int32) → (Nat → Int32) → (Nat → Int32) → (Nat → Int32) → Prop} {x1 x1' F : Int32} (hx : x1 + 1 = x1')
    (hS : ∀ a, a < 6 → ¬ (i >>> (nI a &&& 31)) &&& 1 = 0 → ¬ (¬ a1 0 = 2 ∧ a2 0 = nI a ∧ a3 0 &&& o = 0 ∧ a4 0 &&& i = 0))
    (h1 : b = 1 ∨ ∃ a, a < 6 ∧ ¬ (i >>> (nI a &&& 31)) &&& 1 = 0)
    (hF : ∀ post' : Int32 → Prop, post' F → wpX_founded post' (1, i, o, 1, mv, kn, M, a1, a2, a3, a4, a5, a6, a7, a8))
    (H : ∀ o' mv', J7 x1' 1 i o' 1 mv' kn M a1 a2 a3 a4 a5 a6 a7 a8) : ∃ n, wX_conclude_61 post J7 x1 n 0 1 i o b mv kn M a1 a2 a3 a4 a5 a6 a7 a8 := by
  refine pk_loop (fun n a s => wX_conclude_61 post J7 x1 n (nI a) 1 i o s mv kn M a1 a2 a3 a4 a5 a6 a7 a8) (fun a s => s = 1 ∨ ((∀ c, c < a → (i >>> (nI c &&& 31)) &&& 1 = 0) ∧ s = b)) 6 0 b (by omega) (Or.inr ⟨fun c hc => absurd hc (by omega), rfl⟩) ?_ ?_
  · intro n s hs
    have e : s = 1 := by
      rcases hs with hs | ⟨hs, hb⟩
      · exact hs
      · rcases h1 with h1 | ⟨a, ha, h1⟩
        · rw [hb, h1]
        · exact absurd (hs a ha) h1
    subst e
    exact br_t (by decide) (hF _ (nm_e (sm_po_b (fun o' mv' => nm_r hx (H o' mv')))))
  · intro n a s ha hs hw
    refine br_f (nI_ge (b := 6) ha (by decide)) ?_
    by_cases h : (i >>> (nI a &&& 31)) &&& 1 = 0
    · refine sm_bw_s h (nm_r (nI_1 a) (hw s ?_))
      rcases hs with hs | ⟨hs, hb⟩
      · exact Or.inl hs
      · exact Or.inr ⟨lt_s hs h, hb⟩
    · exact sm_bw_x h (hS a ha h) (nm_r (nI_1 a) (hw 1 (Or.inl rfl)))
theorem sm_34s {post : St2 → Prop} {J7 : Int32 → Int32 → Int32 → Int32 → Int32 → Int32 → Int32 → Int64 → (Nat → Int32) → (Nat → Int32) → (Nat → Int32) → (Nat → Int32) → (Nat → Int32) → (Nat → Int32) → (Nat → Int32) → (Nat → Int32) → Prop} {x1 : Int32} {j0 : Nat} (hz : sm_hz pr j0) (h10 : j0 ≤ 10)
    (H : ∃ n, wX_conclude_61 post J7 x1 n 0 pr i o b mv kn M a1 a2 a3 a4 a5 a6 a7 a8) : ∃ n, wX_conclude_34 post J7 x1 n (nI j0) pr i o b mv kn M a1 a2 a3 a4 a5 a6 a7 a8 :=
  pk_loop (σ := Unit) (fun n j _ => wX_conclude_34 post J7 x1 n (nI j) pr i o b mv kn M a1 a2 a3 a4 a5 a6 a7 a8) (fun j _ => j0 ≤ j) 10 j0 () h10 (Nat.le_refl _)
    (fun n _ _ => br_t (by decide) H)
    (fun n j _ hj hl hw => br_f (nI_ge (b := 10) hj (by decide)) (sm_has0 hj (hz j hj hl) (br_t rfl (nm_r (nI_1 j) (hw () (by omega))))))
theorem sm_34 {post : St2 → Prop} {J7 : Int32 → Int32 → Int32 → Int32 → Int32 → Int32 → Int32 → Int64 → (Nat → Int32) → (Nat → Int32) → (Nat → Int32) → (Nat → Int32) → (Nat → Int32) → (Nat → Int32) → (Nat → Int32) → (Nat → Int32) → Prop} {x1 i' o' b' mv' : Int32}
    (hW : ∀ post' : St2 → Prop, post' (1, i', o', b', mv', kn, M, a1, a2, a3, a4, a5, a6, a7, a8) → wpX_forward post' (1, i, o, b, mv, kn, M, a1, a2, a3, a4, a5, a6, a7, a8) 0)
    (H : ∃ n, wX_conclude_61 post J7 x1 n 0 1 i' o' b' mv' kn M a1 a2 a3 a4 a5 a6 a7 a8) : ∃ n, wX_conclude_34 post J7 x1 n 0 1 i o b mv kn M a1 a2 a3 a4 a5 a6 a7 a8 := by
  obtain ⟨n, hn⟩ := sm_34s sm_hz1 (by decide) H
  exact ⟨n + 1, br_f (by decide) (sm_has1 (br_f (by decide) (hW _ (nm_r (show (0 : Int32) + 1 = nI 1 from rfl) hn))))⟩
theorem sm_7 {post : St2 → Prop} {n c : Nat} (hc : c < 14) (hm : ¬ mv = 0) (H : ∃ k, wX_conclude_34 post (wX_conclude_7 post n) (nI c) k 0 pr i o 0 0 kn M a1 a2 a3 a4 a5 a6 a7 a8) : wX_conclude_7 post (n + 1) (nI c) pr i o 0 mv kn M a1 a2 a3 a4 a5 a6 a7 a8 :=
  br_f (nI_ge (b := 14) hc (by decide)) (br_f hm (br_t rfl H))
theorem sm_7m {post : St2 → Prop} {n : Nat} {x : Int32} (H : post (pr, i, o, b, 0, kn, M, a1, a2, a3, a4, a5, a6, a7, a8)) : wX_conclude_7 post (n + 1) x pr i o b 0 kn M a1 a2 a3 a4 a5 a6 a7 a8 :=
  br_c (fun _ => H) (fun _ => br_t rfl H)
theorem sm_7b {post : St2 → Prop} {n : Nat} {x : Int32} (H : post (pr, i, o, 1, mv, kn, M, a1, a2, a3, a4, a5, a6, a7, a8)) : wX_conclude_7 post (n + 1) x pr i o 1 mv kn M a1 a2 a3 a4 a5 a6 a7 a8 :=
  br_c (fun _ => H) (fun _ => br_c (fun _ => H) (fun _ => br_f (by decide) H))
/-- a round over the rule -/
theorem sm_rd {post : St2 → Prop} {n c : Nat} {F i1 o1 b1 m1 i' o' b' mv' : Int32} (hc : c < 14) (hm : ¬ mv = 0)
    (hW : ∀ post' : St2 → Prop, post' (1, i1, o1, b1, m1, kn, M, a1, a2, a3, a4, a5, a6, a7, a8) → wpX_forward post' (1, i, o, 0, 0, kn, M, a1, a2, a3, a4, a5, a6, a7, a8) 0)
    (hA : ∀ a, a < 6 → ∀ post' : St2 → Prop, post' (1, i1, o1, b1, m1, kn, M, a1, a2, a3, a4, a5, a6, a7, a8) → wpX_backward post' (1, i1, o1, b1, m1, kn, M, a1, a2, a3, a4, a5, a6, a7, a8) (nI a))
    (hF : ∀ post' : Int32 → Prop, post' F → wpX_founded post' (1, i1, o1, b1, m1, kn, M, a1, a2, a3, a4, a5, a6, a7, a8))
    (hO : ∀ post' : St2 → Prop, post' (1, i', o', b', mv', kn, M, a1, a2, a3, a4, a5, a6, a7, a8) → wpX_putOut post' (1, i1, o1, b1, m1, kn, M, a1, a2, a3, a4, a5, a6, a7, a8) (63 &&& (F ^^^ (-1))))
    (H : wX_conclude_7 post n (nI (c + 1)) 1 i' o' b' mv' kn M a1 a2 a3 a4 a5 a6 a7 a8) : wX_conclude_7 post (n + 1) (nI c) 1 i o 0 mv kn M a1 a2 a3 a4 a5 a6 a7 a8 :=
  sm_7 hc hm (sm_34 hW (sm_61s (nI_1 c) hA hF hO H))
/-- a round that breaks -/
theorem sm_rb {post : St2 → Prop} {n c : Nat} {F i1 o1 b1 m1 : Int32} (hc : c < 14) (hm : ¬ mv = 0)
    (hW : ∀ post' : St2 → Prop, post' (1, i1, o1, b1, m1, kn, M, a1, a2, a3, a4, a5, a6, a7, a8) → wpX_forward post' (1, i, o, 0, 0, kn, M, a1, a2, a3, a4, a5, a6, a7, a8) 0)
    (hS : ∀ a, a < 6 → ¬ (i1 >>> (nI a &&& 31)) &&& 1 = 0 → ¬ (¬ a1 0 = 2 ∧ a2 0 = nI a ∧ a3 0 &&& o1 = 0 ∧ a4 0 &&& i1 = 0))
    (h1 : b1 = 1 ∨ ∃ a, a < 6 ∧ ¬ (i1 >>> (nI a &&& 31)) &&& 1 = 0)
    (hF : ∀ post' : Int32 → Prop, post' F → wpX_founded post' (1, i1, o1, 1, m1, kn, M, a1, a2, a3, a4, a5, a6, a7, a8))
    (H : ∀ o' mv', post (1, i1, o', 1, mv', kn, M, a1, a2, a3, a4, a5, a6, a7, a8)) : wX_conclude_7 post (n + 2) (nI c) 1 i o 0 mv kn M a1 a2 a3 a4 a5 a6 a7 a8 :=
  sm_7 hc hm (sm_34 hW (sm_61b (nI_1 c) hS h1 hF (fun o' mv' => sm_7b (H o' mv'))))
/-- a round without a rule -/
theorem sm_r0 {post : St2 → Prop} {n c : Nat} {i' o' b' mv' : Int32} (hc : c < 14) (hm : ¬ mv = 0)
    (hA : ∀ a, a < 6 → ∀ post' : St2 → Prop, post' (0, i, o, 0, 0, kn, M, a1, a2, a3, a4, a5, a6, a7, a8) → wpX_backward post' (0, i, o, 0, 0, kn, M, a1, a2, a3, a4, a5, a6, a7, a8) (nI a))
    (hO : ∀ post' : St2 → Prop, post' (0, i', o', b', mv', kn, M, a1, a2, a3, a4, a5, a6, a7, a8) → wpX_putOut post' (0, i, o, 0, 0, kn, M, a1, a2, a3, a4, a5, a6, a7, a8) (63 &&& ((0 : Int32) ^^^ (-1))))
    (H : wX_conclude_7 post n (nI (c + 1)) 0 i' o' b' mv' kn M a1 a2 a3 a4 a5 a6 a7 a8) : wX_conclude_7 post (n + 1) (nI c) 0 i o 0 mv kn M a1 a2 a3 a4 a5 a6 a7 a8 :=
  sm_7 hc hm (sm_34s (j0 := 0) sm_hz0 (by decide) (sm_61s (nI_1 c) hA (fun _ h => sm_fd0 h) hO H))
end
end
section
/-! bits, and conclude case by case -/
section
variable {pr i o b mv kn : Int32} {M : Int64} {a1 a2 a3 a4 a5 a6 a7 a8 : Nat → Int32}
theorem sm_b0 : ∀ a, a < 6 → ((0 : Int32) >>> (nI a &&& 31)) &&& 1 = 0 := by decide +kernel
theorem sm_bc : ∀ h, h < 6 → (sm_co h >>> (nI h &&& 31)) &&& 1 = 0 := by decide +kernel
theorem sm_bb : ∀ h, h < 6 → ∀ a, a < 6 → a ≠ h → (sm_bt h >>> (nI a &&& 31)) &&& 1 = 0 := by decide +kernel
theorem sm_bs : ∀ h, h < 6 → ¬ (sm_bt h >>> (nI h &&& 31)) &&& 1 = 0 := by decide +kernel
theorem sm_b63 : ∀ h, h < 6 → ¬ ((63 : Int32) >>> (nI h &&& 31)) &&& 1 = 0 := by decide +kernel
theorem sm_bx : ∀ h, h < 6 → sm_bt h &&& sm_co h = 0 := by decide +kernel
theorem sm_cc : ∀ h, h < 6 → sm_co h &&& (sm_co h ^^^ (-1)) = 0 := by decide +kernel
theorem sm_tt : ∀ h, h < 6 → sm_bt h &&& (sm_bt h ^^^ (-1)) = 0 := by decide +kernel
theorem sm_c0 : ∀ h, h < 6 → ¬ sm_co h &&& ((0 : Int32) ^^^ (-1)) = 0 := by decide +kernel
theorem sm_t0 : ∀ h, h < 6 → ¬ sm_bt h &&& ((0 : Int32) ^^^ (-1)) = 0 := by decide +kernel
theorem sm_t63 : ∀ h, h < 6 → ¬ sm_bt h &&& 63 = 0 := by decide +kernel
theorem sm_nb : ∀ h, h < 6 → ∀ n, n < 64 → (nI n &&& (sm_co h ^^^ (-1)) = 0 ↔ nI n &&& sm_bt h = 0) := by decide +kernel
theorem sm_n63 : ∀ n, n < 64 → nI n &&& ((63 : Int32) ^^^ (-1)) = 0 := by decide +kernel
theorem sm_p63 : ∀ n, n < 64 → n ≠ 0 → ¬ nI n &&& 63 = 0 := by decide +kernel
theorem sm_p1 : ∀ n, n < 64 → sm_on (nI n) 6 + 0 = 1 → ¬ (63 &&& ((0 : Int32) ^^^ (-1))) &&& (nI n ^^^ (-1)) = 0 := by decide +kernel
theorem sm_po63 : ∀ n, n < 64 → nI n ||| (63 &&& ((0 : Int32) ^^^ (-1))) = 63 := by decide +kernel
theorem sm_na : ∀ n, n < 64 → n ≠ 0 → ∃ a, a < 6 ∧ ¬ (nI n >>> (nI a &&& 31)) &&& 1 = 0 := by decide +kernel
theorem sm_x0 (x : Int32) : x &&& ((0 : Int32) ^^^ (-1)) = x := by
  rw [show ((0 : Int32) ^^^ (-1)) = -1 by decide]
  exact Int32.and_neg_one
theorem sm_nz {n : Nat} (hn : n < 64) (h0 : n ≠ 0) : ¬ nI n = 0 := nI_ne0 (by omega) (by omega)
/-- nothing is in: backward does nothing -/
theorem sm_A0 : ∀ a, a < 6 → ∀ post' : St2 → Prop, post' (pr, 0, o, b, mv, kn, M, a1, a2, a3, a4, a5, a6, a7, a8) → wpX_backward post' (pr, 0, o, b, mv, kn, M, a1, a2, a3, a4, a5, a6, a7, a8) (nI a) :=
  fun a ha _ h => sm_bw_s (sm_b0 a ha) h
/-- nothing is founded: the first time all go out; the second time nothing moves -/
theorem sm_O1 {post' : St2 → Prop} (h : post' (pr, 0, 63, 0, 1, kn, M, a1, a2, a3, a4, a5, a6, a7, a8)) : wpX_putOut post' (pr, 0, 0, 0, mv, kn, M, a1, a2, a3, a4, a5, a6, a7, a8) (63 &&& ((0 : Int32) ^^^ (-1))) :=
  sm_po_c (by decide) (by decide) (by decide) h
theorem sm_O2 {post' : St2 → Prop} (h : post' (pr, 0, 63, 0, mv, kn, M, a1, a2, a3, a4, a5, a6, a7, a8)) : wpX_putOut post' (pr, 0, 63, 0, mv, kn, M, a1, a2, a3, a4, a5, a6, a7, a8) (63 &&& ((0 : Int32) ^^^ (-1))) :=
  sm_po_s (by decide) (by decide) h
/-- no rule -/
theorem sm_cnN {post : St2 → Prop} (H : post (0, 0, 63, 0, 0, kn, M, a1, a2, a3, a4, a5, a6, a7, a8)) : wpX_conclude post (0, 0, 0, 0, mv, kn, M, a1, a2, a3, a4, a5, a6, a7, a8) :=
  ⟨3, sm_r0 (c := 0) (by omega) (by decide) sm_A0 (fun _ h => sm_O1 h) (sm_r0 (c := 1) (by omega) (by decide) sm_A0 (fun _ h => sm_O2 h) (sm_7m H))⟩
/-- pos isn't empty -/
theorem sm_cnP {post : St2 → Prop} {p n : Nat} (hp : p < 64) (p0 : p ≠ 0) (hn : n < 64) (e3 : a3 0 = nI p) (e4 : a4 0 = nI n) (hk : a1 0 = 0 ∨ a1 0 = 1 ∨ a1 0 = 2) (H : post (1, 0, 63, 0, 0, kn, M, a1, a2, a3, a4, a5, a6, a7, a8)) : wpX_conclude post (1, 0, 0, 0, mv, kn, M, a1, a2, a3, a4, a5, a6, a7, a8) := by
  have b3 : a3 0 &&& ((0 : Int32) ^^^ (-1)) = nI p := by rw [e3, sm_x0]
  have b4 : a4 0 &&& ((0 : Int32) ^^^ (-1)) = nI n := by rw [e4, sm_x0]
  have z3 : a3 0 &&& 0 = 0 := Int32.and_zero
  have z4 : a4 0 &&& 0 = 0 := Int32.and_zero
  have nh : ∀ x, ¬ (a3 0 &&& ((0 : Int32) ^^^ (-1)) = 0 ∧ a4 0 &&& (x ^^^ (-1)) = 0) := fun x h => sm_nz hp p0 (by rw [← b3]; exact h.1)
  have fF : ∀ oo m, ∀ post' : Int32 → Prop, post' 0 → wpX_founded post' (1, 0, oo, 0, m, kn, M, a1, a2, a3, a4, a5, a6, a7, a8) := fun oo m _ h => sm_fdz (fun t => sm_nz hp p0 (by rw [← b3]; exact t.2.2.2)) h
  have R2 : wX_conclude_7 post 2 (nI 1) 1 0 63 0 1 kn M a1 a2 a3 a4 a5 a6 a7 a8 :=
    sm_rd (c := 1) (by omega) (by decide) (fun _ h => sm_fw_fl (nh 63) (fun t => sm_p63 p hp p0 (by rw [← e3]; exact t.1)) h) sm_A0 (fF 63 0) (fun _ h => sm_O2 h) (sm_7m H)
  have R1 : ∀ oo m, (∀ post' : St2 → Prop, post' (1, 0, oo, 0, m, kn, M, a1, a2, a3, a4, a5, a6, a7, a8) → wpX_forward post' (1, 0, 0, 0, 0, kn, M, a1, a2, a3, a4, a5, a6, a7, a8) 0) → (∀ post' : St2 → Prop, post' (1, 0, 63, 0, 1, kn, M, a1, a2, a3, a4, a5, a6, a7, a8) → wpX_putOut post' (1, 0, oo, 0, m, kn, M, a1, a2, a3, a4, a5, a6, a7, a8) (63 &&& ((0 : Int32) ^^^ (-1)))) → wX_conclude_7 post 3 (nI 0) 1 0 0 0 1 kn M a1 a2 a3 a4 a5 a6 a7 a8 :=
    fun oo m hW hO => sm_rd (c := 0) (by omega) (by decide) hW sm_A0 (fF oo m) hO R2
  refine ⟨3, ?_⟩
  rcases hk with hk | hk | hk
  · exact R1 0 0 (fun _ h => sm_fw_n0 hk (nh 0) (by rw [Int32.zero_shiftRight]; exact Int32.zero_and) h) (fun _ h => sm_O1 h)
  · exact R1 0 0 (fun _ h => sm_fw_ch hk h) (fun _ h => sm_O1 h)
  · by_cases hs : sm_on (nI p) 6 + sm_on (nI n) 6 = 1
    · have n0 : n = 0 := by
        rcases Nat.eq_zero_or_pos n with z | z
        · exact z
        · exact absurd hs (sm_on2 p hp n hn p0 (by omega))
      subst n0
      have hs' : sm_on (nI p) 6 + 0 = 1 := hs
      refine R1 (nI p) 1 (fun _ h => sm_fw_bp (o' := nI p) hk (nh 0) z3 z4 (by rw [b3, b4]; exact hs) (by rw [b3, sm_x0]; exact sm_nz hp p0) (by rw [b3]; exact Int32.zero_or) Int32.zero_and (by rw [b4, sm_x0]; rfl) h) (fun _ h => sm_po_c (sm_p1 p hp hs') (sm_po63 p hp) Int32.zero_and h)
    · exact R1 0 0 (fun _ h => sm_fw_bm hk (nh 0) z3 z4 (by rw [b3, b4]; exact hs) h) (fun _ h => sm_O1 h)
/-- a ban of an empty pos: broken -/
theorem sm_cnB {post : St2 → Prop} {n : Nat} (hn : n < 64) (e3 : a3 0 = 0) (e4 : a4 0 = nI n) (hk : a1 0 = 2) (H : ∀ i o mv, post (1, i, o, 1, mv, kn, M, a1, a2, a3, a4, a5, a6, a7, a8)) : wpX_conclude post (1, 0, 0, 0, mv, kn, M, a1, a2, a3, a4, a5, a6, a7, a8) := by
  have z3 : ∀ x, a3 0 &&& x = 0 := fun x => by
    rw [e3]
    exact Int32.zero_and
  have b4 : a4 0 &&& ((0 : Int32) ^^^ (-1)) = nI n := by rw [e4, sm_x0]
  have z4 : a4 0 &&& 0 = 0 := Int32.and_zero
  have hx : ∀ a i o, ¬ (¬ a1 0 = 2 ∧ a2 0 = nI a ∧ a3 0 &&& o = 0 ∧ a4 0 &&& i = 0) := fun a i o t => t.1 hk
  have fF : ∀ i o b m, ∀ post' : Int32 → Prop, post' 0 → wpX_founded post' (1, i, o, b, m, kn, M, a1, a2, a3, a4, a5, a6, a7, a8) := fun i o b m _ h => sm_fdz (fun t => t.1 hk) h
  by_cases n0 : n = 0
  · exact ⟨2, sm_rb (c := 0) (by omega) (by decide) (fun _ h => sm_fw_b hk (z3 _) (by rw [b4, n0]; rfl) h) (fun a _ _ => hx a _ _) (Or.inl rfl) (fF _ _ _ _) (fun o' m' => H _ o' m')⟩
  · have nh : ¬ (a3 0 &&& ((0 : Int32) ^^^ (-1)) = 0 ∧ a4 0 &&& ((0 : Int32) ^^^ (-1)) = 0) := fun t => sm_nz hn n0 (by rw [← b4]; exact t.2)
    by_cases hs : sm_on (a3 0 &&& ((0 : Int32) ^^^ (-1))) 6 + sm_on (a4 0 &&& ((0 : Int32) ^^^ (-1))) 6 = 1
    · exact ⟨2, sm_rb (c := 0) (i1 := nI n) (by omega) (by decide) (fun _ h => sm_fw_bn hk nh (z3 _) z4 hs (by rw [z3]; exact Int32.zero_and) (by decide) (by rw [b4, sm_x0]; exact sm_nz hn n0) (by rw [b4]; exact Int32.zero_or) Int32.and_zero h) (fun a _ _ => hx a _ _) (Or.inr (sm_na n hn n0)) (fF _ _ _ _) (fun o' m' => H _ o' m')⟩
    · exact ⟨3, sm_rd (c := 0) (by omega) (by decide) (fun _ h => sm_fw_bm hk nh (z3 _) z4 hs h) sm_A0 (fF _ _ _ _) (fun _ h => sm_O1 h)
        (sm_rb (c := 1) (by omega) (by decide) (fun _ h => sm_fw_b hk (z3 _) (by rw [e4]; exact sm_n63 n hn) h) (fun a _ _ => hx a _ _) (Or.inl rfl) (fF _ _ _ _) (fun o' m' => H _ o' m'))⟩
/-! plain and choice, pos is empty -/
/-- founded is the head: its complement goes out -/
theorem sm_O3 {post' : St2 → Prop} {h : Nat} (hh : h < 6) (hio : i &&& sm_co h = 0) (H : post' (pr, i, sm_co h, 0, 1, kn, M, a1, a2, a3, a4, a5, a6, a7, a8)) : wpX_putOut post' (pr, i, 0, 0, mv, kn, M, a1, a2, a3, a4, a5, a6, a7, a8) (63 &&& (sm_bt h ^^^ (-1))) :=
  sm_po_c (sm_c0 h hh) Int32.zero_or hio H
theorem sm_O4 {post' : St2 → Prop} {h : Nat} (hh : h < 6) (hio : i &&& sm_co h = 0) (H : post' (pr, i, sm_co h, 0, mv, kn, M, a1, a2, a3, a4, a5, a6, a7, a8)) : wpX_putOut post' (pr, i, sm_co h, 0, mv, kn, M, a1, a2, a3, a4, a5, a6, a7, a8) (63 &&& (sm_bt h ^^^ (-1))) :=
  sm_po_s (sm_cc h hh) hio H
/-- the head is in, the rule brings it in -/
theorem sm_A1 {h n : Nat} (hh : h < 6) (hn : n < 64) (e2 : a2 0 = nI h) (e3 : a3 0 = 0) (e4 : a4 0 = nI n) (k2 : ¬ a1 0 = 2) (hb : nI n &&& sm_bt h = 0) (ho : nI n &&& (o ^^^ (-1)) = 0) (hio : sm_bt h &&& o = 0) :
    ∀ a, a < 6 → ∀ post' : St2 → Prop, post' (1, sm_bt h, o, 0, mv, kn, M, a1, a2, a3, a4, a5, a6, a7, a8) → wpX_backward post' (1, sm_bt h, o, 0, mv, kn, M, a1, a2, a3, a4, a5, a6, a7, a8) (nI a) := by
  intro a ha post' H
  have z3 : ∀ x, a3 0 &&& x = 0 := fun x => by
    rw [e3]
    exact Int32.zero_and
  by_cases e : a = h
  · subst e
    exact sm_bw_o (sm_bs a ha) k2 e2 (z3 _) (by rw [e4]; exact hb) (z3 _) (by rw [e4]; exact ho) hio H
  · exact sm_bw_s (sm_bb h hh a ha e) H
/-- the head is unsettled, nothing moves -/
theorem sm_r2 {post : St2 → Prop} {h c f : Nat} (hc : c < 14) (hm : ¬ mv = 0) (hh : h < 6) (e2 : a2 0 = nI h) (e3 : a3 0 = 0) (k2 : ¬ a1 0 = 2)
    (hW : ∀ post' : St2 → Prop, post' (1, 0, sm_co h, 0, 0, kn, M, a1, a2, a3, a4, a5, a6, a7, a8) → wpX_forward post' (1, 0, sm_co h, 0, 0, kn, M, a1, a2, a3, a4, a5, a6, a7, a8) 0)
    (H : post (1, 0, sm_co h, 0, 0, kn, M, a1, a2, a3, a4, a5, a6, a7, a8)) : wX_conclude_7 post (f + 2) (nI c) 1 0 (sm_co h) 0 mv kn M a1 a2 a3 a4 a5 a6 a7 a8 :=
  sm_rd hc hm hW sm_A0 (fun _ t => sm_fdb hh e2 k2 e3 Int32.and_zero (sm_bc h hh) t) (fun _ t => sm_O4 hh Int32.zero_and t) (sm_7m H)
/-- the first round -/
theorem sm_r1 {post : St2 → Prop} {h f : Nat} (hm : ¬ mv = 0) (hh : h < 6) (e2 : a2 0 = nI h) (e3 : a3 0 = 0) (k2 : ¬ a1 0 = 2)
    (hW : ∀ post' : St2 → Prop, post' (1, 0, 0, 0, 0, kn, M, a1, a2, a3, a4, a5, a6, a7, a8) → wpX_forward post' (1, 0, 0, 0, 0, kn, M, a1, a2, a3, a4, a5, a6, a7, a8) 0)
    (H : wX_conclude_7 post f (nI 1) 1 0 (sm_co h) 0 1 kn M a1 a2 a3 a4 a5 a6 a7 a8) : wX_conclude_7 post (f + 1) (nI 0) 1 0 0 0 mv kn M a1 a2 a3 a4 a5 a6 a7 a8 :=
  sm_rd (c := 0) (by omega) hm hW sm_A0 (fun _ t => sm_fdb hh e2 k2 e3 Int32.and_zero (sm_b0 h hh) t) (fun _ t => sm_O3 hh Int32.zero_and t) H
/-- the head is in and all others are out, the rule bears it: nothing moves -/
theorem sm_r4 {post : St2 → Prop} {h n c f : Nat} (hc : c < 14) (hm : ¬ mv = 0) (hh : h < 6) (hn : n < 64) (e2 : a2 0 = nI h) (e3 : a3 0 = 0) (e4 : a4 0 = nI n) (hk : a1 0 = 0 ∨ a1 0 = 1) (hb : nI n &&& sm_bt h = 0)
    (H : post (1, sm_bt h, sm_co h, 0, 0, kn, M, a1, a2, a3, a4, a5, a6, a7, a8)) : wX_conclude_7 post (f + 2) (nI c) 1 (sm_bt h) (sm_co h) 0 mv kn M a1 a2 a3 a4 a5 a6 a7 a8 := by
  have k2 : ¬ a1 0 = 2 := by
    rcases hk with hk | hk
    · rw [hk]; decide
    · rw [hk]; decide
  have ho := (sm_nb h hh n hn).mpr hb
  refine sm_rd (i1 := sm_bt h) (o1 := sm_co h) (b1 := 0) (m1 := 0) hc hm ?_ (sm_A1 hh hn e2 e3 e4 k2 hb ho (sm_bx h hh)) (fun _ t => sm_fdb hh e2 k2 e3 (by rw [e4]; exact hb) (sm_bc h hh) t) (fun _ t => sm_O4 hh (sm_bx h hh) t) (sm_7m H)
  intro post' t
  rcases hk with hk | hk
  · exact sm_fw_hs hk (by rw [e3]; exact Int32.zero_and) (by rw [e4]; exact ho) (by rw [e2]; exact sm_tt h hh) (sm_bx h hh) t
  · exact sm_fw_ch hk t
/-- the head is in and all others are out, the rule can't bear it: broken -/
theorem sm_r5 {post : St2 → Prop} {h n c f : Nat} (hc : c < 14) (hm : ¬ mv = 0) (hh : h < 6) (hn : n < 64) (e2 : a2 0 = nI h) (e3 : a3 0 = 0) (e4 : a4 0 = nI n) (hk : a1 0 = 0 ∨ a1 0 = 1) (hb : ¬ nI n &&& sm_bt h = 0)
    (H : ∀ i o mv, post (1, i, o, 1, mv, kn, M, a1, a2, a3, a4, a5, a6, a7, a8)) : wX_conclude_7 post (f + 2) (nI c) 1 (sm_bt h) (sm_co h) 0 mv kn M a1 a2 a3 a4 a5 a6 a7 a8 := by
  have nf : ∀ x : Int32, ¬ (x = 0 ∧ a4 0 &&& sm_bt h = 0) := fun x t => hb (by rw [← e4]; exact t.2)
  refine sm_rb (i1 := sm_bt h) (o1 := sm_co h) (b1 := 0) (m1 := 0) hc hm ?_ (fun a ha _ t => nf _ t.2.2) (Or.inr ⟨h, hh, sm_bs h hh⟩) (fun _ t => sm_fdz (fun u => nf _ u.2.1) t) (fun o' m' => H _ o' m')
  intro post' t
  rcases hk with hk | hk
  · exact sm_fw_n0 hk (fun u => hb ((sm_nb h hh n hn).mp (by rw [← e4]; exact u.2))) (by rw [e2]; exact sm_bc h hh) t
  · exact sm_fw_ch hk t
/-- conclude, plain, the rule bears its head -/
theorem sm_cnF {post : St2 → Prop} {h n : Nat} (hh : h < 6) (hn : n < 64) (e2 : a2 0 = nI h) (e3 : a3 0 = 0) (e4 : a4 0 = nI n) (hk : a1 0 = 0) (hb : nI n &&& sm_bt h = 0)
    (H : post (1, sm_bt h, sm_co h, 0, 0, kn, M, a1, a2, a3, a4, a5, a6, a7, a8)) : wpX_conclude post (1, 0, 0, 0, mv, kn, M, a1, a2, a3, a4, a5, a6, a7, a8) := by
  have k2 : ¬ a1 0 = 2 := by
    rw [hk]
    decide
  have z3 : ∀ x, a3 0 &&& x = 0 := fun x => by
    rw [e3]
    exact Int32.zero_and
  have ho := (sm_nb h hh n hn).mpr hb
  have b4 : a4 0 &&& ((0 : Int32) ^^^ (-1)) = nI n := by rw [e4, sm_x0]
  by_cases n0 : n = 0
  · refine ⟨3, sm_rd (c := 0) (i1 := sm_bt h) (o1 := 0) (b1 := 0) (m1 := 1) (by omega) (by decide)
      (fun _ t => sm_fw_hc hk (z3 _) (by rw [b4, n0]; rfl) (by rw [e2]; exact sm_t0 h hh) (by rw [e2]; exact Int32.zero_or) Int32.and_zero t)
      (sm_A1 hh hn e2 e3 e4 k2 hb (by rw [n0]; exact Int32.zero_and) Int32.and_zero) (fun _ t => sm_fdb hh e2 k2 e3 (by rw [e4]; exact hb) (sm_b0 h hh) t) (fun _ t => sm_O3 hh (sm_bx h hh) t)
      (sm_r4 (c := 1) (by omega) (by decide) hh hn e2 e3 e4 (Or.inl hk) hb H)⟩
  · refine ⟨4, sm_r1 (by decide) hh e2 e3 k2 (fun _ t => sm_fw_n0 hk (fun u => sm_nz hn n0 (by rw [← b4]; exact u.2)) (by rw [e2]; exact sm_b0 h hh) t)
      (sm_rd (c := 1) (i1 := sm_bt h) (o1 := sm_co h) (b1 := 0) (m1 := 1) (by omega) (by decide)
        (fun _ t => sm_fw_hc hk (z3 _) (by rw [e4]; exact ho) (by rw [e2]; exact sm_t0 h hh) (by rw [e2]; exact Int32.zero_or) (sm_bx h hh) t)
        (sm_A1 hh hn e2 e3 e4 k2 hb ho (sm_bx h hh)) (fun _ t => sm_fdb hh e2 k2 e3 (by rw [e4]; exact hb) (sm_bc h hh) t) (fun _ t => sm_O4 hh (sm_bx h hh) t)
        (sm_r4 (c := 2) (by omega) (by decide) hh hn e2 e3 e4 (Or.inl hk) hb H))⟩
/-- conclude, plain, the rule can't bear its head: it stays unsettled -/
theorem sm_cnG {post : St2 → Prop} {h n : Nat} (hh : h < 6) (hn : n < 64) (e2 : a2 0 = nI h) (e3 : a3 0 = 0) (e4 : a4 0 = nI n) (hk : a1 0 = 0) (hb : ¬ nI n &&& sm_bt h = 0)
    (H : post (1, 0, sm_co h, 0, 0, kn, M, a1, a2, a3, a4, a5, a6, a7, a8)) : wpX_conclude post (1, 0, 0, 0, mv, kn, M, a1, a2, a3, a4, a5, a6, a7, a8) := by
  have k2 : ¬ a1 0 = 2 := by
    rw [hk]
    decide
  have b4 : a4 0 &&& ((0 : Int32) ^^^ (-1)) = nI n := by rw [e4, sm_x0]
  have n0 : n ≠ 0 := fun e => hb (by rw [e]; exact Int32.zero_and)
  exact ⟨3, sm_r1 (by decide) hh e2 e3 k2 (fun _ t => sm_fw_n0 hk (fun u => sm_nz hn n0 (by rw [← b4]; exact u.2)) (by rw [e2]; exact sm_b0 h hh) t)
    (sm_r2 (by omega) (by decide) hh e2 e3 k2 (fun _ t => sm_fw_n0 hk (fun u => hb ((sm_nb h hh n hn).mp (by rw [← e4]; exact u.2))) (by rw [e2]; exact sm_bc h hh) t) H)⟩
/-- conclude, choice: the head stays unsettled -/
theorem sm_cnC {post : St2 → Prop} {h : Nat} (hh : h < 6) (e2 : a2 0 = nI h) (e3 : a3 0 = 0) (hk : a1 0 = 1)
    (H : post (1, 0, sm_co h, 0, 0, kn, M, a1, a2, a3, a4, a5, a6, a7, a8)) : wpX_conclude post (1, 0, 0, 0, mv, kn, M, a1, a2, a3, a4, a5, a6, a7, a8) := by
  have k2 : ¬ a1 0 = 2 := by
    rw [hk]
    decide
  exact ⟨3, sm_r1 (by decide) hh e2 e3 k2 (fun _ t => sm_fw_ch hk t) (sm_r2 (by omega) (by decide) hh e2 e3 k2 (fun _ t => sm_fw_ch hk t) H)⟩
/-- the second try: the head is taken in -/
theorem sm_cnI {post : St2 → Prop} {h n : Nat} (hh : h < 6) (hn : n < 64) (e2 : a2 0 = nI h) (e3 : a3 0 = 0) (e4 : a4 0 = nI n) (hk : a1 0 = 0 ∨ a1 0 = 1) (hb : nI n &&& sm_bt h = 0)
    (H : post (1, sm_bt h, sm_co h, 0, 0, kn, M, a1, a2, a3, a4, a5, a6, a7, a8)) : wpX_conclude post (1, sm_bt h, sm_co h, 0, mv, kn, M, a1, a2, a3, a4, a5, a6, a7, a8) :=
  ⟨2, sm_r4 (c := 0) (by omega) (by decide) hh hn e2 e3 e4 hk hb H⟩
theorem sm_cnJ {post : St2 → Prop} {h n : Nat} (hh : h < 6) (hn : n < 64) (e2 : a2 0 = nI h) (e3 : a3 0 = 0) (e4 : a4 0 = nI n) (hk : a1 0 = 0 ∨ a1 0 = 1) (hb : ¬ nI n &&& sm_bt h = 0)
    (H : ∀ i o mv, post (1, i, o, 1, mv, kn, M, a1, a2, a3, a4, a5, a6, a7, a8)) : wpX_conclude post (1, sm_bt h, sm_co h, 0, mv, kn, M, a1, a2, a3, a4, a5, a6, a7, a8) :=
  ⟨2, sm_r5 (c := 0) (by omega) (by decide) hh hn e2 e3 e4 hk hb H⟩
/-- the first try of a choice: the head is taken out -/
theorem sm_cnO {post : St2 → Prop} {h : Nat} (hh : h < 6) (e2 : a2 0 = nI h) (hk : a1 0 = 1)
    (H : post (1, 0, 63, 0, 0, kn, M, a1, a2, a3, a4, a5, a6, a7, a8)) : wpX_conclude post (1, 0, 63, 0, mv, kn, M, a1, a2, a3, a4, a5, a6, a7, a8) :=
  ⟨2, sm_rd (c := 0) (by omega) (by decide) (fun _ t => sm_fw_ch hk t) sm_A0 (fun _ t => sm_fdz (fun u => sm_b63 h hh (by rw [← e2]; exact u.2.2.1)) t) (fun _ t => sm_O2 t) (sm_7m H)⟩
/-- the first try of a plain rule that can't bear its head: broken -/
theorem sm_cnQ {post : St2 → Prop} {h n : Nat} (hh : h < 6) (hn : n < 64) (e2 : a2 0 = nI h) (e3 : a3 0 = 0) (e4 : a4 0 = nI n) (hk : a1 0 = 0) (hb : ¬ nI n &&& sm_bt h = 0)
    (H : ∀ i o mv, post (1, i, o, 1, mv, kn, M, a1, a2, a3, a4, a5, a6, a7, a8)) : wpX_conclude post (1, 0, 63, 0, mv, kn, M, a1, a2, a3, a4, a5, a6, a7, a8) := by
  have nf : ∀ x : Int32, ¬ (x = 0 ∧ a4 0 &&& sm_bt h = 0) := fun x t => hb (by rw [← e4]; exact t.2)
  exact ⟨2, sm_rb (c := 0) (i1 := sm_bt h) (o1 := 63) (b1 := 1) (m1 := 1) (by omega) (by decide)
    (fun _ t => sm_fw_hx hk (by rw [e3]; exact Int32.zero_and) (by rw [e4]; exact sm_n63 n hn) (by rw [e2]; exact sm_t0 h hh) (by rw [e2]; exact Int32.zero_or) (sm_t63 h hh) t)
    (fun a ha _ t => nf _ t.2.2) (Or.inl rfl) (fun _ t => sm_fdz (fun u => nf _ u.2.1) t) (fun o' m' => H _ o' m')⟩
end
end
section
/-! the levels, tryNext, search -/
section
variable {pr i o b mv kn : Int32} {M : Int64} {a1 a2 a3 a4 a5 a6 a7 a8 : Nat → Int32}
theorem sm_q1 : ∀ h, h < 6 → (sm_co h).toInt8.toInt32 = sm_co h := by decide +kernel
theorem sm_q2 : ∀ h, h < 6 → (nI h).toInt8.toInt32 = nI h := by decide +kernel
theorem sm_q3 : ∀ h, h < 6 → (((0 : Int32) ||| sm_co h) >>> (nI h &&& 31)) &&& 1 = 0 := by decide +kernel
theorem sm_q4 : ∀ h, h < 6 → ∀ j, j < h → ¬ (((0 : Int32) ||| sm_co h) >>> (nI j &&& 31)) &&& 1 = 0 := by decide +kernel
theorem sm_q5 : ∀ h, h < 6 → ¬ ((0 : Int32) ||| sm_co h) = 63 := by decide +kernel
theorem sm_q6 : ∀ h, h < 6 → sm_co h ||| sm_bt h = 63 := by decide +kernel
theorem sm_q7 : ∀ h, h < 6 → sm_bt h ||| sm_co h = 63 := by decide +kernel
theorem sm_cl1 : ((1 : Int32) - 1) = 0 := by decide
theorem sm_open {post : St2 → Prop} {h : Nat} (hh : h < 6) (H : post (pr, 0, sm_co h, b, mv, kn, M, a1, a2, a3, a4, upd a5 0 0, upd a6 0 (sm_co h), upd a7 0 (nI h), upd a8 0 0)) : wpX_open post (pr, 0, sm_co h, b, mv, kn, M, a1, a2, a3, a4, a5, a6, a7, a8) 0 := by
  refine ⟨pk_in 0 8 (by omega), nm_r (e' := upd a5 0 0) (by rw [sb_cl0]; rfl) ⟨pk_in 0 8 (by omega), nm_r (e' := upd a6 0 (sm_co h)) (by rw [sb_cl0, sm_q1 h hh]) ⟨pk_in 0 8 (by omega), nm_r (e' := upd a8 0 0) (by rw [sb_cl0]) ?_⟩⟩⟩
  exact pk_loop (σ := Unit) (fun n j _ => wX_open_31 post 0 pr 0 (sm_co h) b mv kn M a1 a2 a3 a4 (upd a5 0 0) (upd a6 0 (sm_co h)) a7 (upd a8 0 0) n (nI j)) (fun _ _ => True) h 0 () (by omega) trivial
    (fun n _ _ => br_t (sm_q3 h hh) ⟨pk_in 0 8 (by omega), nm_r (e' := upd a7 0 (nI h)) (by rw [sb_cl0, sm_q2 h hh]) H⟩)
    (fun n j _ hj _ hw => br_f (sm_q4 h hh j hj) (nm_r (nI_1 j) (hw () trivial)))
/-- what a conclude from (i, o) does to the set of models -/
def sm_try (pr : Int32) (a1 a2 a3 a4 : Nat → Int32) (i o : Int32) (f : Int64 → Int64) : Prop :=
  (∃ I O : Int32, I ||| O = 63 ∧ (∀ M, f M = M ||| ((1 : Int64) <<< (I.toInt64 &&& 63))) ∧ ∀ (mv kn : Int32) (M : Int64) (a5 a6 a7 a8 : Nat → Int32) (post : St2 → Prop), post (pr, I, O, 0, 0, kn, M, a1, a2, a3, a4, a5, a6, a7, a8) → wpX_conclude post (pr, i, o, 0, mv, kn, M, a1, a2, a3, a4, a5, a6, a7, a8))
  ∨ ((∀ M, f M = M) ∧ ∀ (mv kn : Int32) (M : Int64) (a5 a6 a7 a8 : Nat → Int32) (post : St2 → Prop), (∀ i o mv, post (pr, i, o, 1, mv, kn, M, a1, a2, a3, a4, a5, a6, a7, a8)) → wpX_conclude post (pr, i, o, 0, mv, kn, M, a1, a2, a3, a4, a5, a6, a7, a8))
theorem sm_vf {post : St2 → Prop} {n c : Nat} {x1 : Int32} (hc : c < 512) (hf : i ||| o = 63) (H : ∃ k, wX_search_123 post (wX_search_43 post n) (nI c) pr i o 0 mv kn (M ||| ((1 : Int64) <<< (i.toInt64 &&& 63))) a1 a2 a3 a4 a5 a6 a7 a8 k x1) : wX_search_43 post (n + 1) x1 1 (nI c) pr i o 0 mv kn M a1 a2 a3 a4 a5 a6 a7 a8 :=
  br_f (nI_ge (b := 512) hc (by decide)) (br_f (by decide) (br_t rfl (br_t hf (nm_e (br_f (by decide) (br_t rfl (br_t hf H)))))))
theorem sm_vb {post : St2 → Prop} {n c : Nat} {x1 : Int32} (hc : c < 512) (H : ∃ k, wX_search_123 post (wX_search_43 post n) (nI c) pr i o 1 mv kn M a1 a2 a3 a4 a5 a6 a7 a8 k x1) : wX_search_43 post (n + 1) x1 1 (nI c) pr i o 1 mv kn M a1 a2 a3 a4 a5 a6 a7 a8 :=
  br_f (nI_ge (b := 512) hc (by decide)) (br_f (by decide) (br_f (by decide) (br_f (by decide) (br_f (by decide) H))))
theorem sm_vo {post : St2 → Prop} {n c h : Nat} (hc : c < 512) (hh : h < 6) (H : ∃ k, wX_search_123 post (wX_search_43 post n) (nI c) pr 0 (sm_co h) 0 mv kn M a1 a2 a3 a4 (upd a5 0 0) (upd a6 0 (sm_co h)) (upd a7 0 (nI h)) (upd a8 0 0) k 1) : wX_search_43 post (n + 1) 0 1 (nI c) pr 0 (sm_co h) 0 mv kn M a1 a2 a3 a4 a5 a6 a7 a8 :=
  br_f (nI_ge (b := 512) hc (by decide)) (br_f (by decide) (br_t rfl (br_f (sm_q5 h hh) (br_f (by decide) (br_t rfl (br_f (sm_q5 h hh) (sm_open hh (nm_r (show (0 : Int32) + 1 = 1 by decide) H))))))))
theorem sm_tv {post Q : St2 → Prop} {n c : Nat} {x1 : Int32} {f : Int64 → Int64} (T : sm_try pr a1 a2 a3 a4 i o f) (hc : c < 512)
    (H : ∀ i' o' b' mv', ∃ k, wX_search_123 post (wX_search_43 post n) (nI c) pr i' o' b' mv' kn (f M) a1 a2 a3 a4 a5 a6 a7 a8 k x1)
    (hQ : ∀ i' o' b' mv', wX_search_43 post (n + 1) x1 1 (nI c) pr i' o' b' mv' kn M a1 a2 a3 a4 a5 a6 a7 a8 → Q (pr, i', o', b', mv', kn, M, a1, a2, a3, a4, a5, a6, a7, a8)) : wpX_conclude Q (pr, i, o, 0, mv, kn, M, a1, a2, a3, a4, a5, a6, a7, a8) := by
  rcases T with ⟨I, O, e, hf, T⟩ | ⟨hf, T⟩
  · refine T _ _ _ _ _ _ _ _ (hQ _ _ _ _ (sm_vf hc e ?_))
    rw [← hf]
    exact H _ _ _ _
  · refine T _ _ _ _ _ _ _ _ (fun i' o' mv' => hQ _ _ _ _ (sm_vb hc ?_))
    have t := H i' o' 1 mv'
    rw [hf] at t
    exact t
theorem sm_123z {post : St2 → Prop} {J43 : Int32 → Int32 → Int32 → Int32 → Int32 → Int32 → Int32 → Int32 → Int32 → Int64 → (Nat → Int32) → (Nat → Int32) → (Nat → Int32) → (Nat → Int32) → (Nat → Int32) → (Nat → Int32) → (Nat → Int32) → (Nat → Int32) → Prop} {x3 : Int32} {k : Nat} (H : post (pr, i, o, b, mv, kn, M, a1, a2, a3, a4, a5, a6, a7, a8)) : wX_search_123 post J43 x3 pr i o b mv kn M a1 a2 a3 a4 a5 a6 a7 a8 (k + 1) 0 :=
  br_t (by decide) (br_t rfl H)
theorem sm_123d {post : St2 → Prop} {J43 : Int32 → Int32 → Int32 → Int32 → Int32 → Int32 → Int32 → Int32 → Int32 → Int64 → (Nat → Int32) → (Nat → Int32) → (Nat → Int32) → (Nat → Int32) → (Nat → Int32) → (Nat → Int32) → (Nat → Int32) → (Nat → Int32) → Prop} {x3 : Int32} (h8 : a8 0 = 2) (H : post (pr, i, o, b, mv, kn, M, a1, a2, a3, a4, a5, a6, a7, a8)) : wX_search_123 post J43 x3 pr i o b mv kn M a1 a2 a3 a4 a5 a6 a7 a8 2 1 :=
  br_f (by decide) ⟨pk_in 0 8 (by omega), br_t h8 (nm_r (show (1 : Int32) + (-1) = 0 by decide) (sm_123z H))⟩
/-- a try -/
theorem sm_tr {post : St2 → Prop} {n c h : Nat} {f : Int64 → Int64} {j s i' o' : Int32} (hc : c + 1 < 512) (hh : h < 6) (t5 : a5 0 = 0) (t6 : a6 0 = sm_co h) (t7 : a7 0 = nI h) (t8 : a8 0 = j) (hj : (j = 0 ∧ i' = 0 ∧ o' = 63 ∧ s = 1) ∨ (j = 1 ∧ i' = sm_bt h ∧ o' = sm_co h ∧ s = 2))
    (T : sm_try pr a1 a2 a3 a4 i' o' f)
    (H : ∀ i' o' b' mv', ∃ k, wX_search_123 post (wX_search_43 post n) (nI (c + 1)) pr i' o' b' mv' kn (f M) a1 a2 a3 a4 a5 a6 a7 (upd a8 0 s) k 1) :
    ∃ k, wX_search_123 post (wX_search_43 post (n + 1)) (nI c) pr i o b mv kn M a1 a2 a3 a4 a5 a6 a7 a8 k 1 := by
  have j2 : ¬ a8 0 = 2 := by
    rw [t8]
    rcases hj with hj | hj
    · rw [hj.1]; decide
    · rw [hj.1]; decide
  refine ⟨1, br_f (by decide) ⟨pk_in 0 8 (by omega), br_f j2 (br_f (by decide) ?_)⟩⟩
  rw [sm_cl1]
  have e8 : upd a8 (0 : Int32).toNatClampNeg (((a8 (0 : Int32).toNatClampNeg) + 1).toInt8.toInt32) = upd a8 0 s := by
    rw [sb_cl0, t8]
    rcases hj with hj | hj
    · rw [hj.1, hj.2.2.2]; rfl
    · rw [hj.1, hj.2.2.2]; rfl
  refine ⟨pk_in 0 8 (by omega), nm_r (e' := 0) t5 ⟨pk_in 0 8 (by omega), nm_r (e' := sm_co h) t6 ⟨pk_in 0 8 (by omega), nm_r (e' := sm_bt h) (by rw [sb_cl0, t7]) ⟨pk_in 0 8 (by omega), ?_⟩⟩⟩⟩
  rcases hj with ⟨z1, z2, z3, z4⟩ | ⟨z1, z2, z3, z4⟩
  · subst z2 z3
    exact br_t (by rw [sb_cl0, t8, z1]) (nm_r (sm_q6 h hh) ⟨pk_in 0 8 (by omega), pk_in 0 8 (by omega), nm_r e8 (sm_tv T hc H (fun _ _ _ _ t => nm_r (nI_1 c) t))⟩)
  · subst z2 z3
    exact br_f (by rw [sb_cl0, t8, z1]; decide) (nm_r (e' := sm_bt h) Int32.zero_or ⟨pk_in 0 8 (by omega), pk_in 0 8 (by omega), nm_r e8 (sm_tv T hc H (fun _ _ _ _ t => nm_r (nI_1 c) t))⟩)
/-- a search that is asked anew ends with the set R -/
def sm_sr (pr : Int32) (a1 a2 a3 a4 : Nat → Int32) (R : Int64) : Prop :=
  ∀ (i o b mv : Int32) (M : Int64) (a5 a6 a7 a8 : Nat → Int32) (post : St2 → Prop), (∀ (i o b mv : Int32) (a5 a6 a7 a8 : Nat → Int32), post (pr, i, o, b, mv, 1, R, a1, a2, a3, a4, a5, a6, a7, a8)) → wpX_search post (pr, i, o, b, mv, 0, M, a1, a2, a3, a4, a5, a6, a7, a8)
/-- nothing is tried -/
theorem sm_s1 {f : Int64 → Int64} (T : sm_try pr a1 a2 a3 a4 0 0 f) : sm_sr pr a1 a2 a3 a4 (f 0) :=
  fun _ _ _ _ _ _ _ _ _ post H => br_t rfl (sm_tv (n := 0) (c := 0) (x1 := 0) T (by omega) (fun i' o' b' mv' => ⟨1, sm_123z (H i' o' b' mv' _ _ _ _)⟩) (fun _ _ _ _ t => ⟨1, t⟩))
/-- the head is tried -/
theorem sm_s2 {f g : Int64 → Int64} {h : Nat} (hh : h < 6)
    (C : ∀ (mv kn : Int32) (M : Int64) (a5 a6 a7 a8 : Nat → Int32) (post : St2 → Prop), post (pr, 0, sm_co h, 0, 0, kn, M, a1, a2, a3, a4, a5, a6, a7, a8) → wpX_conclude post (pr, 0, 0, 0, mv, kn, M, a1, a2, a3, a4, a5, a6, a7, a8))
    (T : sm_try pr a1 a2 a3 a4 0 63 f) (U : sm_try pr a1 a2 a3 a4 (sm_bt h) (sm_co h) g) : sm_sr pr a1 a2 a3 a4 (g (f 0)) := by
  intro _ _ _ _ _ _ _ _ _ post H
  refine br_t rfl (C _ _ _ _ _ _ _ _ ⟨3, sm_vo (c := 0) (by omega) hh ?_⟩)
  refine sm_tr (c := 0) (n := 1) (j := 0) (s := 1) (by omega) hh pk_us pk_us pk_us pk_us (Or.inl ⟨rfl, rfl, rfl, rfl⟩) T (fun i1 o1 b1 m1 => ?_)
  refine sm_tr (c := 1) (n := 0) (j := 1) (s := 2) (by omega) hh pk_us pk_us pk_us pk_us (Or.inr ⟨rfl, rfl, rfl, rfl⟩) U (fun i2 o2 b2 m2 => ?_)
  exact ⟨2, sm_123d pk_us (H _ _ _ _ _ _ _ _)⟩
/-! the sets of models -/
abbrev sm_lb (h : Nat) : Int64 := (1 : Int64) <<< ((sm_bt h).toInt64 &&& 63)
theorem sm_sN : sm_sr 0 a1 a2 a3 a4 1 :=
  sm_s1 (f := fun M => M ||| ((1 : Int64) <<< ((0 : Int32).toInt64 &&& 63))) (Or.inl ⟨0, 63, by decide, fun _ => rfl, fun _ _ _ _ _ _ _ _ t => sm_cnN t⟩)
theorem sm_sP {p n : Nat} (hp : p < 64) (p0 : p ≠ 0) (hn : n < 64) (e3 : a3 0 = nI p) (e4 : a4 0 = nI n) (hk : a1 0 = 0 ∨ a1 0 = 1 ∨ a1 0 = 2) : sm_sr 1 a1 a2 a3 a4 1 :=
  sm_s1 (f := fun M => M ||| ((1 : Int64) <<< ((0 : Int32).toInt64 &&& 63))) (Or.inl ⟨0, 63, by decide, fun _ => rfl, fun _ _ _ _ _ _ _ _ t => sm_cnP hp p0 hn e3 e4 hk t⟩)
theorem sm_sB {n : Nat} (hn : n < 64) (e3 : a3 0 = 0) (e4 : a4 0 = nI n) (hk : a1 0 = 2) : sm_sr 1 a1 a2 a3 a4 0 :=
  sm_s1 (f := fun M => M) (Or.inr ⟨fun _ => rfl, fun _ _ _ _ _ _ _ _ t => sm_cnB hn e3 e4 hk t⟩)
theorem sm_sF {h n : Nat} (hh : h < 6) (hn : n < 64) (e2 : a2 0 = nI h) (e3 : a3 0 = 0) (e4 : a4 0 = nI n) (hk : a1 0 = 0) (hb : nI n &&& sm_bt h = 0) : sm_sr 1 a1 a2 a3 a4 (0 ||| sm_lb h) :=
  sm_s1 (f := fun M => M ||| sm_lb h) (Or.inl ⟨sm_bt h, sm_co h, sm_q7 h hh, fun _ => rfl, fun _ _ _ _ _ _ _ _ t => sm_cnF hh hn e2 e3 e4 hk hb t⟩)
theorem sm_sG {h n : Nat} (hh : h < 6) (hn : n < 64) (e2 : a2 0 = nI h) (e3 : a3 0 = 0) (e4 : a4 0 = nI n) (hk : a1 0 = 0) (hb : ¬ nI n &&& sm_bt h = 0) : sm_sr 1 a1 a2 a3 a4 0 :=
  sm_s2 (f := fun M => M) (g := fun M => M) hh (fun _ _ _ _ _ _ _ _ t => sm_cnG hh hn e2 e3 e4 hk hb t)
    (Or.inr ⟨fun _ => rfl, fun _ _ _ _ _ _ _ _ t => sm_cnQ hh hn e2 e3 e4 hk hb t⟩) (Or.inr ⟨fun _ => rfl, fun _ _ _ _ _ _ _ _ t => sm_cnJ hh hn e2 e3 e4 (Or.inl hk) hb t⟩)
theorem sm_sC {h n : Nat} (hh : h < 6) (hn : n < 64) (e2 : a2 0 = nI h) (e3 : a3 0 = 0) (e4 : a4 0 = nI n) (hk : a1 0 = 1) (hb : nI n &&& sm_bt h = 0) : sm_sr 1 a1 a2 a3 a4 (1 ||| sm_lb h) :=
  sm_s2 (f := fun M => M ||| ((1 : Int64) <<< ((0 : Int32).toInt64 &&& 63))) (g := fun M => M ||| sm_lb h) hh (fun _ _ _ _ _ _ _ _ t => sm_cnC hh e2 e3 hk t)
    (Or.inl ⟨0, 63, by decide, fun _ => rfl, fun _ _ _ _ _ _ _ _ t => sm_cnO hh e2 hk t⟩) (Or.inl ⟨sm_bt h, sm_co h, sm_q7 h hh, fun _ => rfl, fun _ _ _ _ _ _ _ _ t => sm_cnI hh hn e2 e3 e4 (Or.inr hk) hb t⟩)
theorem sm_sD {h n : Nat} (hh : h < 6) (hn : n < 64) (e2 : a2 0 = nI h) (e3 : a3 0 = 0) (e4 : a4 0 = nI n) (hk : a1 0 = 1) (hb : ¬ nI n &&& sm_bt h = 0) : sm_sr 1 a1 a2 a3 a4 1 :=
  sm_s2 (f := fun M => M ||| ((1 : Int64) <<< ((0 : Int32).toInt64 &&& 63))) (g := fun M => M) hh (fun _ _ _ _ _ _ _ _ t => sm_cnC hh e2 e3 hk t)
    (Or.inl ⟨0, 63, by decide, fun _ => rfl, fun _ _ _ _ _ _ _ _ t => sm_cnO hh e2 hk t⟩) (Or.inr ⟨fun _ => rfl, fun _ _ _ _ _ _ _ _ t => sm_cnJ hh hn e2 e3 e4 (Or.inr hk) hb t⟩)
end
end
section
/-! the law's own tail: what the answers must be -/
section
variable {mc ms kc ks : Nat} {x0 x1 x2 x3 x4 x6 x7 x8 x9 x10 x11 x13 x14 x15 x16 x17 x18 x20 x21 x22 z0 z1 : Int32}
abbrev sm_P : Int32 → St0 → Prop := fun r _ => r = 1
theorem sm_t414 (h : z1 = z0) (h11 : x11 = if x22 = 1 ∧ x10 = 0 then 0 else 1) : wL_lawOf_414 sm_P mc ms x10 x11 x22 z0 z1 kc ks := by
  refine br_t h (br_c (fun a => br_c (fun c => ?_) (fun c => ?_)) (fun a => ?_))
  · rw [if_pos ⟨a, c⟩] at h11
    exact br_t h11 rfl
  · rw [if_neg (fun t => c t.2)] at h11
    exact br_t h11 rfl
  · rw [if_neg (fun t => a t.1)] at h11
    exact br_t h11 rfl
theorem sm_t375 (h : z1 = z0) (h8 : x8 = x20) (h9 : x9 = x22) (h10 : x10 = if x20 = 0 then (if x21 = 0 then -1 else x15) else 0) (h11 : x11 = if x22 = 1 ∧ x10 = 0 then 0 else 1) : wL_lawOf_375 sm_P mc ms x8 x9 x10 x11 x15 x20 x21 x22 z0 z1 kc ks := by
  refine br_t h (br_t h8 (br_t h9 (br_c (fun a => br_c (fun c => ?_) (fun c => ?_)) (fun a => ?_))))
  · rw [if_pos a, if_pos c] at h10
    exact sm_t414 h10 h11
  · rw [if_pos a, if_neg c] at h10
    exact sm_t414 h10 h11
  · rw [if_neg a] at h10
    exact sm_t414 h10 h11
/-- what the support must be -/
def sm_sx (x14 x15 x16 : Int32) : Int32 := if x14 = 0 then -1 else if x16 = 0 then 0 else x15
theorem sm_t350 (h : z1 = z0) (h7 : x7 = sm_sx x14 x15 x16) (h8 : x8 = x20) (h9 : x9 = x22) (h10 : x10 = if x20 = 0 then (if x21 = 0 then -1 else x15) else 0) (h11 : x11 = if x22 = 1 ∧ x10 = 0 then 0 else 1) : wL_lawOf_350 sm_P mc ms x7 x8 x9 x10 x11 x14 x15 x16 x20 x21 x22 z0 z1 kc ks := by
  unfold sm_sx at h7
  refine br_t h (br_c (fun a => ?_) (fun a => br_c (fun c => ?_) (fun c => ?_)))
  · rw [if_pos a] at h7
    exact sm_t375 h7 h8 h9 h10 h11
  · rw [if_neg a, if_pos c] at h7
    exact sm_t375 h7 h8 h9 h10 h11
  · rw [if_neg a, if_neg c] at h7
    exact sm_t375 h7 h8 h9 h10 h11
theorem sm_t335 (e : z1 + z0 = x22) (h6 : x6 = if x13 = 0 then -1 else 0) (h7 : x7 = sm_sx x14 x15 x16) (h8 : x8 = x20) (h9 : x9 = x22) (h10 : x10 = if x20 = 0 then (if x21 = 0 then -1 else x15) else 0) (h11 : x11 = if x22 = 1 ∧ x10 = 0 then 0 else 1) : wL_lawOf_335 sm_P mc ms x6 x7 x8 x9 x10 x11 x13 x14 x15 x16 x20 x21 z0 z1 kc ks := by
  refine nm_r e (br_c (fun a => ?_) (fun a => ?_))
  · rw [if_pos a] at h6
    exact sm_t350 h6 h7 h8 h9 h10 h11
  · rw [if_neg a] at h6
    exact sm_t350 h6 h7 h8 h9 h10 h11
/-- neither fact nor choice nor banned: the empty set alone -/
theorem sm_tE (h6 : x6 = if x13 = 0 then -1 else 0) (h7 : x7 = sm_sx x14 x15 x16) : wL_lawOf_272 sm_P mc ms x3 x6 x7 1 1 0 0 x13 x14 x15 x16 0 0 0 kc ks :=
  br_t rfl (br_t rfl (br_t rfl (br_f (by decide) (br_t rfl (br_t rfl (sm_t335 (x22 := 1) (by decide) h6 h7 rfl rfl rfl rfl))))))
/-- banned -/
theorem sm_tB (h6 : x6 = if x13 = 0 then -1 else 0) (h7 : x7 = sm_sx x14 x15 x16) : wL_lawOf_272 sm_P mc ms x3 x6 x7 0 0 (-1) 1 x13 x14 x15 x16 0 0 1 kc ks :=
  br_f (by decide) (br_t rfl (br_t rfl (br_t rfl (br_t rfl (sm_t335 (x22 := 0) (by decide) h6 h7 rfl rfl rfl rfl)))))
/-- a fact that bears its head -/
theorem sm_tF (h6 : x6 = if x13 = 0 then -1 else 0) (h7 : x7 = sm_sx x14 x15 x16) (hb : x3 &&& x15 = 0) (h15 : ¬ x15 = 0) : wL_lawOf_272 sm_P mc ms x3 x6 x7 0 1 x15 1 x13 x14 x15 x16 1 0 0 kc ks :=
  br_t rfl (br_f (by decide) (br_f (by decide) (br_t hb (br_t rfl (br_f (by decide) (sm_t335 (x22 := 1) (by decide) h6 h7 rfl rfl rfl (by rw [if_neg (fun t => h15 t.2)])))))))
/-- a fact that can't bear its head -/
theorem sm_tG (h6 : x6 = if x13 = 0 then -1 else 0) (h7 : x7 = sm_sx x14 x15 x16) (hb : ¬ x3 &&& x15 = 0) : wL_lawOf_272 sm_P mc ms x3 x6 x7 0 0 (-1) 1 x13 x14 x15 x16 1 0 0 kc ks :=
  br_t rfl (br_f (by decide) (br_f (by decide) (br_f hb (br_t rfl (br_t rfl (br_t rfl (sm_t335 (x22 := 0) (by decide) h6 h7 rfl rfl rfl rfl)))))))
/-- a choice -/
theorem sm_tC (h6 : x6 = if x13 = 0 then -1 else 0) (h7 : x7 = sm_sx x14 x15 x16) : wL_lawOf_272 sm_P mc ms x3 x6 x7 1 2 0 1 x13 x14 x15 x16 0 1 0 kc ks :=
  br_t rfl (br_t rfl (br_t rfl (br_f (by decide) (br_t rfl (br_f (by decide) (sm_t335 (x22 := 2) (by decide) h6 h7 rfl rfl rfl rfl))))))
theorem sm_t251_0 (h : ¬ (¬ x13 = 0 ∧ x0 = 2 ∧ x2 = 0)) (H : wL_lawOf_272 sm_P mc ms x3 x6 x7 x8 x9 x10 x11 x13 x14 x15 x16 x17 z0 0 kc ks) : wL_lawOf_251 sm_P mc ms x0 x2 x3 x6 x7 x8 x9 x10 x11 x13 x14 x15 x16 x17 z0 kc ks :=
  br_c (fun _ => H) (fun a => br_c (fun c => br_c (fun d => absurd ⟨a, c, d⟩ h) (fun _ => H)) (fun _ => H))
theorem sm_t251_1 (h : ¬ x13 = 0 ∧ x0 = 2 ∧ x2 = 0) (H : wL_lawOf_272 sm_P mc ms x3 x6 x7 x8 x9 x10 x11 x13 x14 x15 x16 x17 z0 1 kc ks) : wL_lawOf_251 sm_P mc ms x0 x2 x3 x6 x7 x8 x9 x10 x11 x13 x14 x15 x16 x17 z0 kc ks :=
  br_f h.1 (br_t h.2.1 (br_t h.2.2 H))
theorem sm_t223_0 (h : ¬ (¬ x13 = 0 ∧ x0 = 1 ∧ x2 = 0 ∧ x3 &&& x15 = 0)) (H : wL_lawOf_251 sm_P mc ms x0 x2 x3 x6 x7 x8 x9 x10 x11 x13 x14 x15 x16 z0 0 kc ks) : wL_lawOf_223 sm_P mc ms x0 x2 x3 x6 x7 x8 x9 x10 x11 x13 x14 x15 x16 z0 kc ks :=
  br_c (fun _ => H) (fun a => br_c (fun c => br_c (fun d => br_c (fun e => absurd ⟨a, c, d, e⟩ h) (fun _ => H)) (fun _ => H)) (fun _ => H))
theorem sm_t223_1 (h : ¬ x13 = 0 ∧ x0 = 1 ∧ x2 = 0 ∧ x3 &&& x15 = 0) (H : wL_lawOf_251 sm_P mc ms x0 x2 x3 x6 x7 x8 x9 x10 x11 x13 x14 x15 x16 z0 1 kc ks) : wL_lawOf_223 sm_P mc ms x0 x2 x3 x6 x7 x8 x9 x10 x11 x13 x14 x15 x16 z0 kc ks :=
  br_f h.1 (br_t h.2.1 (br_t h.2.2.1 (br_t h.2.2.2 H)))
theorem sm_t203_0 (h : ¬ (¬ x13 = 0 ∧ x0 = 0 ∧ x2 = 0)) (H : wL_lawOf_223 sm_P mc ms x0 x2 x3 x6 x7 x8 x9 x10 x11 x13 x14 x15 z0 0 kc ks) : wL_lawOf_203 sm_P mc ms x0 x2 x3 x6 x7 x8 x9 x10 x11 x13 x14 x15 z0 kc ks :=
  br_c (fun _ => H) (fun a => br_c (fun c => br_c (fun d => absurd ⟨a, c, d⟩ h) (fun _ => H)) (fun _ => H))
theorem sm_t203_1 (h : ¬ x13 = 0 ∧ x0 = 0 ∧ x2 = 0) (H : wL_lawOf_223 sm_P mc ms x0 x2 x3 x6 x7 x8 x9 x10 x11 x13 x14 x15 z0 1 kc ks) : wL_lawOf_203 sm_P mc ms x0 x2 x3 x6 x7 x8 x9 x10 x11 x13 x14 x15 z0 kc ks :=
  br_f h.1 (br_t h.2.1 (br_t h.2.2 H))
/-- whether the rule fires at m -/
def sm_fi (x0 x2 x3 x4 x13 x14 x15 : Int32) : Prop := ¬ x13 = 0 ∧ ¬ 2 ≤ x0 ∧ x2 = 0 ∧ ¬ x14 = 0 ∧ x3 &&& x4 = 0 ∧ (x0 = 0 ∨ ¬ x4 &&& x15 = 0)
theorem sm_t158 (H0 : ¬ sm_fi x0 x2 x3 x4 x13 x14 z0 → wL_lawOf_203 sm_P mc ms x0 x2 x3 x6 x7 x8 x9 x10 x11 x13 x14 z0 0 kc ks) (H1 : sm_fi x0 x2 x3 x4 x13 x14 z0 → wL_lawOf_203 sm_P mc ms x0 x2 x3 x6 x7 x8 x9 x10 x11 x13 x14 z0 1 kc ks) : wL_lawOf_158 sm_P mc ms x0 x2 x3 x4 x6 x7 x8 x9 x10 x11 x13 x14 z0 kc ks :=
  br_c (fun a => H0 (fun t => t.1 a)) (fun a => br_c (fun c => H0 (fun t => t.2.1 c)) (fun c => br_c (fun d => br_c (fun e => H0 (fun t => t.2.2.2.1 e)) (fun e => br_c (fun f => br_c (fun g => H1 ⟨a, c, d, e, f, Or.inl g⟩) (fun g => br_c (fun k => H0 (fun t => t.2.2.2.2.2.elim g (fun q => q k))) (fun k => H1 ⟨a, c, d, e, f, Or.inr k⟩))) (fun f => H0 (fun t => f t.2.2.2.2.1)))) (fun d => H0 (fun t => d t.2.2.1))))
/-- the bit of the head -/
theorem sm_t139_0 (h : x13 = 0 ∨ 2 ≤ x0) (H : wL_lawOf_158 sm_P mc ms x0 x2 x3 x4 x6 x7 x8 x9 x10 x11 x13 z0 0 kc ks) : wL_lawOf_139 sm_P mc ms x0 x1 x2 x3 x4 x6 x7 x8 x9 x10 x11 x13 z0 kc ks :=
  br_c (fun _ => H) (fun a => br_c (fun _ => H) (fun c => absurd h (fun t => t.elim a c)))
theorem sm_t139_1 (h : ¬ x13 = 0) (h2 : ¬ 2 ≤ x0) (H : wL_lawOf_158 sm_P mc ms x0 x2 x3 x4 x6 x7 x8 x9 x10 x11 x13 z0 ((1 : Int32) <<< (x1 &&& 31)) kc ks) : wL_lawOf_139 sm_P mc ms x0 x1 x2 x3 x4 x6 x7 x8 x9 x10 x11 x13 z0 kc ks :=
  br_f h (br_f h2 H)
/-- whether m is a set -/
def sm_is (x : Int32) : Prop := ¬ x < 0 ∧ ¬ 63 < x
theorem sm_t120_0 (h : ¬ sm_is x4) (H : wL_lawOf_139 sm_P mc ms x0 x1 x2 x3 x4 x6 x7 x8 x9 x10 x11 z0 0 kc ks) : wL_lawOf_120 sm_P mc ms x0 x1 x2 x3 x4 x6 x7 x8 x9 x10 x11 z0 kc ks :=
  br_c (fun _ => H) (fun a => br_c (fun _ => H) (fun c => absurd ⟨a, c⟩ h))
theorem sm_t120_1 (h : sm_is x4) (H : wL_lawOf_139 sm_P mc ms x0 x1 x2 x3 x4 x6 x7 x8 x9 x10 x11 z0 1 kc ks) : wL_lawOf_120 sm_P mc ms x0 x1 x2 x3 x4 x6 x7 x8 x9 x10 x11 z0 kc ks :=
  br_f h.1 (br_f h.2 H)
/-- whether the rule is good -/
def sm_gd (x0 x1 x2 x3 : Int32) : Prop := sm_is x2 ∧ sm_is x3 ∧ ¬ x0 < 0 ∧ ¬ 2 < x0 ∧ (x0 = 2 ∨ (¬ x1 < 0 ∧ ¬ 5 < x1))
/-- the tail as a whole -/
def sm_TL (mc ms : Nat) (p0 p1 p2 p3 p4 g s z n f m : Int32) (kc ks : Nat) : Prop :=
  ((p2 < 0 → (wL_lawOf_84 sm_P mc ms p0 p1 p2 p3 p4 g s z n f m kc ks)) ∧ (¬ p2 < 0 → (((63 < p2 → (wL_lawOf_84 sm_P mc ms p0 p1 p2 p3 p4 g s z n f m kc ks)) ∧ (¬ 63 < p2 → (((p3 < 0 → (wL_lawOf_84 sm_P mc ms p0 p1 p2 p3 p4 g s z n f m kc ks)) ∧ (¬ p3 < 0 → (((63 < p3 → (wL_lawOf_84 sm_P mc ms p0 p1 p2 p3 p4 g s z n f m kc ks)) ∧ (¬ 63 < p3 → (wL_lawOf_85 sm_P mc ms p0 p1 p2 p3 p4 g s z n f m 1 kc ks))))))))))))
theorem sm_TL0 {g s z n f m : Int32} (h : ¬ sm_gd x0 x1 x2 x3) (H : wL_lawOf_120 sm_P mc ms x0 x1 x2 x3 x4 g s z n f m 0 kc ks) : sm_TL mc ms x0 x1 x2 x3 x4 g s z n f m kc ks := by
  have H84 : wL_lawOf_84 sm_P mc ms x0 x1 x2 x3 x4 g s z n f m kc ks := br_t rfl H
  refine br_c (fun _ => H84) (fun c1 => br_c (fun _ => H84) (fun c2 => br_c (fun _ => H84) (fun c3 => br_c (fun _ => H84) (fun c4 => ?_))))
  exact br_f (by decide) (br_c (fun _ => H) (fun d1 => br_c (fun _ => H) (fun d2 => br_c (fun d3 => absurd ⟨⟨c1, c2⟩, ⟨c3, c4⟩, d1, d2, Or.inl d3⟩ h) (fun d3 => br_c (fun _ => H) (fun d4 => br_c (fun _ => H) (fun d5 => absurd ⟨⟨c1, c2⟩, ⟨c3, c4⟩, d1, d2, Or.inr ⟨d4, d5⟩⟩ h))))))
theorem sm_TL1 {g s z n f m : Int32} (h : sm_gd x0 x1 x2 x3) (H : wL_lawOf_120 sm_P mc ms x0 x1 x2 x3 x4 g s z n f m 1 kc ks) : sm_TL mc ms x0 x1 x2 x3 x4 g s z n f m kc ks := by
  obtain ⟨⟨c1, c2⟩, ⟨c3, c4⟩, d1, d2, d3⟩ := h
  refine br_f c1 (br_f c2 (br_f c3 (br_f c4 (br_f (by decide) (br_f d1 (br_f d2 ?_))))))
  rcases d3 with d3 | ⟨d4, d5⟩
  · exact br_t d3 H
  · exact br_c (fun _ => H) (fun _ => br_f d4 (br_f d5 H))
end
end
section
/-! add, support, stable, models, model, matters -/
section
variable {pr i o b mv kn : Int32} {M : Int64} {a1 a2 a3 a4 a5 a6 a7 a8 : Nat → Int32}
theorem sm_is1 {post : Int32 → Prop} {x : Int32} (h : sm_is x) (H : post 1) : wpX_isSet post () x := br_f h.1 (br_f h.2 H)
theorem sm_is0 {post : Int32 → Prop} {x : Int32} (h : ¬ sm_is x) (H : post 0) : wpX_isSet post () x := br_c (fun _ => H) (fun a => br_c (fun _ => H) (fun c => absurd ⟨a, c⟩ h))
theorem sm_isN {x : Int32} (h : sm_is x) : ∃ n, n < 64 ∧ x = nI n := by
  obtain ⟨j, hj, e⟩ := nI_of h.1
  have t := h.2
  rw [e] at t
  refine ⟨j, ?_, e⟩
  rcases Nat.lt_or_ge j 64 with z | z
  · exact z
  · exact absurd (nI_lt (a := 63) (b := j) (by omega) hj) t
theorem sm_56 {x : Int32} (h : ¬ x < 0) : (6 ≤ x ↔ 5 < x) := by
  obtain ⟨j, hj, e⟩ := nI_of h
  rw [e]
  exact Iff.trans (nI_leI (a := 6) (by omega) hj) (Iff.symm (nI_ltI (a := 5) (by omega) hj))
/-! support -/
theorem sm_sp13s {post : Int32 → Prop} {J4 : Int32 → Int32 → Prop} {x1 x2 x3 x3' : Int32} {j0 : Nat} (hz : sm_hz pr j0) (h10 : j0 ≤ 10) (hx : x3 + 1 = x3') (H : J4 x2 x3') : ∃ n, wX_supportOf_13 post J4 x1 x3 pr i o b mv kn M a1 a2 a3 a4 a5 a6 a7 a8 n x2 (nI j0) :=
  pk_loop (σ := Unit) (fun n j _ => wX_supportOf_13 post J4 x1 x3 pr i o b mv kn M a1 a2 a3 a4 a5 a6 a7 a8 n x2 (nI j)) (fun j _ => j0 ≤ j) 10 j0 () h10 (Nat.le_refl _)
    (fun n _ _ => br_t (by decide) (nm_r hx H))
    (fun n j _ hj hl hw => br_f (nI_ge (b := 10) hj (by decide)) (sm_has0 hj (hz j hj hl) (br_t rfl (br_t rfl (nm_r (nI_1 j) (hw () (by omega)))))))
def sm_sf (a1 a2 a3 a4 : Nat → Int32) (m s : Int32) : Prop := ¬ a1 0 = 2 ∧ a4 0 &&& m = 0 ∧ a3 0 &&& (s ^^^ (-1)) = 0 ∧ (a1 0 = 0 ∨ ¬ (m >>> (a2 0 &&& 31)) &&& 1 = 0)
theorem sm_sp13 {post : Int32 → Prop} {J4 : Int32 → Int32 → Prop} {x1 x2 x3 x3' : Int32} (hx : x3 + 1 = x3') (H1 : sm_sf a1 a2 a3 a4 x1 x2 → J4 (x2 ||| ((1 : Int32) <<< (a2 0 &&& 31))) x3') (H0 : ¬ sm_sf a1 a2 a3 a4 x1 x2 → J4 x2 x3') : ∃ n, wX_supportOf_13 post J4 x1 x3 1 i o b mv kn M a1 a2 a3 a4 a5 a6 a7 a8 n x2 0 := by
  have e : (0 : Int32) + 1 = nI 1 := rfl
  have v : vp_in 0 10 := pk_in 0 10 (by omega)
  by_cases hs : sm_sf a1 a2 a3 a4 x1 x2
  · obtain ⟨n, hn⟩ := sm_sp13s (post := post) (J4 := J4) (x1 := x1) (pr := 1) (i := i) (o := o) (b := b) (mv := mv) (kn := kn) (M := M) (a1 := a1) (a2 := a2) (a3 := a3) (a4 := a4) (a5 := a5) (a6 := a6) (a7 := a7) (a8 := a8) sm_hz1 (by decide) hx (H1 hs)
    refine ⟨n + 1, br_f (by decide) (sm_has1 (br_f (by decide) ⟨v, br_f hs.1 ⟨v, br_t hs.2.1 ⟨v, br_t hs.2.2.1 (br_f (by decide) ⟨v, ?_⟩)⟩⟩⟩))⟩
    exact br_c (fun _ => ⟨v, nm_e (nm_r e hn)⟩) (fun k0 => ⟨v, br_f (hs.2.2.2.resolve_left k0) ⟨v, nm_e (nm_r e hn)⟩⟩)
  · obtain ⟨n, hn⟩ := sm_sp13s (post := post) (J4 := J4) (x1 := x1) (pr := 1) (i := i) (o := o) (b := b) (mv := mv) (kn := kn) (M := M) (a1 := a1) (a2 := a2) (a3 := a3) (a4 := a4) (a5 := a5) (a6 := a6) (a7 := a7) (a8 := a8) sm_hz1 (by decide) hx (H0 hs)
    have sk : wX_supportOf_71 post J4 (wX_supportOf_13 post J4 x1 x3 1 i o b mv kn M a1 a2 a3 a4 a5 a6 a7 a8 n) x1 x2 x3 0 0 1 i o b mv kn M a1 a2 a3 a4 a5 a6 a7 a8 := br_t rfl (nm_r e hn)
    refine ⟨n + 1, br_f (by decide) (sm_has1 (br_f (by decide) ⟨v, br_c (fun _ => sk) (fun k2 => ⟨v, br_c (fun h4 => ⟨v, br_c (fun h3 => br_f (by decide) ⟨v, ?_⟩) (fun _ => sk)⟩) (fun _ => sk)⟩)⟩))⟩
    exact br_c (fun k0 => absurd ⟨k2, h4, h3, Or.inl k0⟩ hs) (fun k0 => ⟨v, br_c (fun _ => nm_r e hn) (fun hm => absurd ⟨k2, h4, h3, Or.inr hm⟩ hs)⟩)
theorem sm_su0 {post : Int32 → Prop} {m : Int32} (H : post 0) : wpX_supportOf post (0, i, o, b, mv, kn, M, a1, a2, a3, a4, a5, a6, a7, a8) m :=
  pk_loop (fun n j s => wX_supportOf_4 post m 0 i o b mv kn M a1 a2 a3 a4 a5 a6 a7 a8 n s (nI j)) (fun _ s => s = 0) 6 0 0 (by omega) rfl
    (fun n s h => br_t (by decide) (by rw [h]; exact H))
    (fun n j s hj h hw => br_f (nI_ge (b := 6) hj (by decide)) (sm_sp13s (j0 := 0) sm_hz0 (by decide) (nI_1 j) (hw s h)))
theorem sm_suz {post : Int32 → Prop} {m : Int32} (h : ¬ sm_sf a1 a2 a3 a4 m 0) (H : post 0) : wpX_supportOf post (1, i, o, b, mv, kn, M, a1, a2, a3, a4, a5, a6, a7, a8) m :=
  pk_loop (fun n j s => wX_supportOf_4 post m 1 i o b mv kn M a1 a2 a3 a4 a5 a6 a7 a8 n s (nI j)) (fun _ s => s = 0) 6 0 0 (by omega) rfl
    (fun n s e => br_t (by decide) (by rw [e]; exact H))
    (fun n j s hj e hw => br_f (nI_ge (b := 6) hj (by decide)) (sm_sp13 (nI_1 j) (fun t => absurd t (by rw [e]; exact h)) (fun _ => hw s e)))
theorem sm_sub {post : Int32 → Prop} {m : Int32} {h : Nat} (e2 : a2 0 = nI h) (e3 : a3 0 = 0) (hf : sm_sf a1 a2 a3 a4 m 0) (H : post (sm_bt h)) : wpX_supportOf post (1, i, o, b, mv, kn, M, a1, a2, a3, a4, a5, a6, a7, a8) m := by
  have z3 : ∀ x, a3 0 &&& x = 0 := fun x => by
    rw [e3]
    exact Int32.zero_and
  have q1 : (0 : Int32) ||| sm_bt h = sm_bt h := Int32.zero_or
  have q2 : sm_bt h ||| sm_bt h = sm_bt h := Int32.or_self
  refine pk_loop (fun n j s => wX_supportOf_4 post m 1 i o b mv kn M a1 a2 a3 a4 a5 a6 a7 a8 n s (nI j)) (fun j s => s = if j = 0 then 0 else sm_bt h) 6 0 0 (by omega) rfl
    (fun n s e => br_t (by decide) (by rw [e]; exact H))
    (fun n j s hj e hw => br_f (nI_ge (b := 6) hj (by decide)) (sm_sp13 (nI_1 j) (fun _ => hw _ ?_) (fun t => absurd ⟨hf.1, hf.2.1, z3 _, hf.2.2.2⟩ t)))
  rw [e, e2]
  by_cases ej : j = 0
  · rw [if_pos ej, if_neg (by omega)]
    exact q1
  · rw [if_neg ej, if_neg (by omega)]
    exact q2
theorem sm_supY {post : Int32 → Prop} {m : Int32} (h : sm_is m) (H : wpX_supportOf post (pr, i, o, b, mv, kn, M, a1, a2, a3, a4, a5, a6, a7, a8) m) : wpX_support post (pr, i, o, b, mv, kn, M, a1, a2, a3, a4, a5, a6, a7, a8) m := by
  unfold wpX_support
  exact sm_is1 h (br_f (by decide) H)
theorem sm_supN {post : Int32 → Prop} {m : Int32} (h : ¬ sm_is m) (H : post (-1)) : wpX_support post (pr, i, o, b, mv, kn, M, a1, a2, a3, a4, a5, a6, a7, a8) m := by
  unfold wpX_support
  exact sm_is0 h (br_t rfl H)
/-! models -/
abbrev sm_im (R : Int64) (x : Int32) : Prop := ((R.toUInt64 >>> (x.toInt64.toUInt64 &&& Int64.toUInt64 63)).toInt64 &&& 1) = 0
def sm_ct (R : Int64) : Nat → Int32
  | 0 => 0
  | j + 1 => if ((R.toUInt64 >>> ((nI j).toInt64.toUInt64 &&& Int64.toUInt64 63)).toInt64 &&& 1) = 0 then sm_ct R j + 0 else sm_ct R j + 1
theorem sm_stable {post : Int32 → St2 → Prop} {R : Int64} {z : Int32} (hs : sm_sr pr a1 a2 a3 a4 R) (hz : (sm_im R 0 ∧ z = 0) ∨ (¬ sm_im R 0 ∧ z = 1)) (H : ∀ (i o b mv : Int32) (a5 a6 a7 a8 : Nat → Int32), post z (pr, i, o, b, mv, 1, R, a1, a2, a3, a4, a5, a6, a7, a8)) : wpX_stable post (pr, i, o, b, mv, 0, M, a1, a2, a3, a4, a5, a6, a7, a8) 0 := by
  unfold wpX_stable
  refine sm_is1 ⟨by decide, by decide⟩ (br_f (by decide) (hs _ _ _ _ _ _ _ _ _ _ (fun i o b mv a5 a6 a7 a8 => ?_)))
  have t := H i o b mv a5 a6 a7 a8
  rcases hz with ⟨h, e⟩ | ⟨h, e⟩
  · rw [e] at t
    exact br_t h ⟨rfl, t⟩
  · rw [e] at t
    exact br_f h ⟨rfl, t⟩
theorem sm_models {post : Int32 → St2 → Prop} (H : post (sm_ct M 64) (pr, i, o, b, mv, 1, M, a1, a2, a3, a4, a5, a6, a7, a8)) : wpX_models post (pr, i, o, b, mv, 1, M, a1, a2, a3, a4, a5, a6, a7, a8) :=
  br_f (by decide) (pk_loop (fun n j s => wX_models_8 post pr i o b mv 1 M a1 a2 a3 a4 a5 a6 a7 a8 n s (nI j)) (fun j s => s = sm_ct M j) 64 0 0 (by omega) rfl
    (fun n s h => br_t (by decide) (by rw [h]; exact H))
    (fun n j s hj h hw => br_f (nI_nlt (a := 63) (by omega) (by omega)) (br_c (fun c => br_t rfl (nm_e (nm_r (nI_1 j) (hw _ (by rw [h]; exact (if_pos c).symm))))) (fun c => br_f (by decide) (nm_e (nm_r (nI_1 j) (hw _ (by rw [h]; exact (if_neg c).symm))))))))
theorem sm_model {post : Int32 → St2 → Prop} {d : Nat} (hd : d < 64) (h0 : ∀ j, j < d → sm_im M (nI j)) (h1 : ¬ sm_im M (nI d)) (H : post (nI d) (pr, i, o, b, mv, 1, M, a1, a2, a3, a4, a5, a6, a7, a8)) : wpX_model post (pr, i, o, b, mv, 1, M, a1, a2, a3, a4, a5, a6, a7, a8) 0 :=
  br_f (by decide) (pk_loop (σ := Unit) (fun n j _ => wX_model_8 post 0 pr i o b mv 1 M a1 a2 a3 a4 a5 a6 a7 a8 n 0 (nI j)) (fun _ _ => True) d 0 () (by omega) trivial
    (fun n _ _ => br_f (nI_nlt (a := 63) (by omega) (by omega)) (br_f h1 (br_f (by decide) (br_t rfl H))))
    (fun n j _ hj _ hw => br_f (nI_nlt (a := 63) (by omega) (by omega)) (br_t (h0 j hj) (br_t rfl (nm_r (nI_1 j) (hw () trivial))))))
theorem sm_modelN {post : Int32 → St2 → Prop} (h0 : ∀ j, j < 64 → sm_im M (nI j)) (H : post (-1) (pr, i, o, b, mv, 1, M, a1, a2, a3, a4, a5, a6, a7, a8)) : wpX_model post (pr, i, o, b, mv, 1, M, a1, a2, a3, a4, a5, a6, a7, a8) 0 :=
  br_f (by decide) (pk_loop (σ := Unit) (fun n j _ => wX_model_8 post 0 pr i o b mv 1 M a1 a2 a3 a4 a5 a6 a7 a8 n 0 (nI j)) (fun _ _ => True) 64 0 () (by omega) trivial
    (fun n _ _ => br_t (by decide) H)
    (fun n j _ hj _ hw => br_f (nI_nlt (a := 63) (by omega) (by omega)) (br_t (h0 j hj) (br_t rfl (nm_r (nI_1 j) (hw () trivial))))))
theorem sm_mat0 {post : Int32 → St2 → Prop} (H : ∀ (pr i o b mv kn : Int32) (M : Int64) (a1 a2 a3 a4 a5 a6 a7 a8 : Nat → Int32), post 0 (pr, i, o, b, mv, kn, M, a1, a2, a3, a4, a5, a6, a7, a8)) : wpX_matters post (0, i, o, b, mv, kn, M, a1, a2, a3, a4, a5, a6, a7, a8) 0 := by
  unfold wpX_matters
  exact sm_has0 (j := 0) (by omega) (sm_hz0 0 (by omega) (by omega)) (br_t rfl (H _ _ _ _ _ _ _ _ _ _ _ _ _ _ _))
theorem sm_mat1 {post : Int32 → St2 → Prop} {m : Int32} (hm : (M = 1 ∧ m = 0) ∨ (¬ M = 1 ∧ m = 1)) (H : ∀ (pr i o b mv kn : Int32) (M : Int64) (a1 a2 a3 a4 a5 a6 a7 a8 : Nat → Int32), post m (pr, i, o, b, mv, kn, M, a1, a2, a3, a4, a5, a6, a7, a8)) : wpX_matters post (1, i, o, b, mv, 1, M, a1, a2, a3, a4, a5, a6, a7, a8) 0 := by
  unfold wpX_matters
  refine sm_has1 (br_f (by decide) (br_f (by decide) (nm_r (e' := 0) (by decide) (sm_sN _ _ _ _ _ _ _ _ _ _ (fun i o b mv a5 a6 a7 a8 => nm_e ?_)))))
  rcases hm with ⟨h, e⟩ | ⟨h, e⟩
  · rw [e] at H
    exact br_t h (H _ _ _ _ _ _ _ _ _ _ _ _ _ _ _)
  · rw [e] at H
    exact br_f h (H _ _ _ _ _ _ _ _ _ _ _ _ _ _ _)
/-! add -/
theorem sm_a20z {post : Int32 → St2 → Prop} {x1 x2 x3 x4 : Int32} (H : post (-1) (pr, i, o, b, mv, kn, M, a1, a2, a3, a4, a5, a6, a7, a8)) : wX_add_20 post x1 x2 x3 x4 0 pr i o b mv kn M a1 a2 a3 a4 a5 a6 a7 a8 :=
  br_c (fun _ => H) (fun _ => br_c (fun _ => H) (fun _ => br_t rfl H))
theorem sm_a20n {post : Int32 → St2 → Prop} {x1 x2 x3 x4 : Int32} (h : ¬ (¬ x1 < 0 ∧ ¬ 2 < x1 ∧ sm_is x3 ∧ sm_is x4)) (H : post (-1) (pr, i, o, b, mv, kn, M, a1, a2, a3, a4, a5, a6, a7, a8)) : wX_add_20 post x1 x2 x3 x4 1 pr i o b mv kn M a1 a2 a3 a4 a5 a6 a7 a8 := by
  refine br_c (fun _ => H) (fun c1 => br_c (fun _ => H) (fun c2 => br_f (by decide) ?_))
  by_cases h3 : sm_is x3
  · by_cases h4 : sm_is x4
    · exact absurd ⟨c1, c2, h3, h4⟩ h
    · exact sm_is1 h3 (br_f (by decide) (sm_is0 h4 (br_t rfl H)))
  · exact sm_is0 h3 (br_t rfl H)
theorem sm_addN {post : Int32 → St2 → Prop} {x0 x1 x2 x3 : Int32} (h : ¬ sm_gd x0 x1 x2 x3) (H : post (-1) (pr, i, o, b, mv, kn, M, a1, a2, a3, a4, a5, a6, a7, a8)) : wpX_add post (pr, i, o, b, mv, kn, M, a1, a2, a3, a4, a5, a6, a7, a8) x0 x1 x2 x3 := by
  refine br_c (fun k2 => ?_) (fun k2 => br_c (fun _ => sm_a20z H) (fun c1 => br_c (fun _ => sm_a20z H) (fun c2 => ?_)))
  · exact sm_a20n (fun t => h ⟨t.2.2.1, t.2.2.2, t.1, t.2.1, Or.inl k2⟩) H
  · exact sm_a20n (fun t => h ⟨t.2.2.1, t.2.2.2, t.1, t.2.1, Or.inr ⟨c1, fun z => c2 ((sm_56 c1).mpr z)⟩⟩) H
theorem sm_add1 {post : Int32 → St2 → Prop} {x0 x1 x2 x3 hd : Int32} (h : sm_gd x0 x1 x2 x3) (ehd : hd = if x0 = 2 then 0 else x1)
    (H : post 0 (1, i, o, b, mv, 0, M, upd a1 0 x0.toInt8.toInt32, upd a2 0 hd.toInt8.toInt32, upd a3 0 x2.toInt8.toInt32, upd a4 0 x3.toInt8.toInt32, a5, a6, a7, a8)) : wpX_add post (0, i, o, b, mv, kn, M, a1, a2, a3, a4, a5, a6, a7, a8) x0 x1 x2 x3 := by
  obtain ⟨h2, h3, d1, d2, d3⟩ := h
  have v : vp_in 0 10 := pk_in 0 10 (by omega)
  have A : wX_add_20 post x0 x1 x2 x3 1 0 i o b mv kn M a1 a2 a3 a4 a5 a6 a7 a8 := by
    refine br_f d1 (br_f d2 (br_f (by decide) (sm_is1 h2 (br_f (by decide) (sm_is1 h3 (br_f (by decide) ⟨1, br_f (by decide) ?_⟩))))))
    refine sm_has0 (j := 0) (by omega) (sm_hz0 0 (by omega) (by omega)) (br_t rfl (nm_r (e' := 1) (by decide) ⟨v, nm_r (e' := upd a1 0 x0.toInt8.toInt32) (by rw [sb_cl0]) ?_⟩))
    refine br_c (fun k => ?_) (fun k => ?_)
    · rw [if_pos k] at ehd
      subst ehd
      exact ⟨v, nm_r (e' := upd a2 0 (0 : Int32).toInt8.toInt32) (by rw [sb_cl0]) ⟨v, nm_r (e' := upd a3 0 x2.toInt8.toInt32) (by rw [sb_cl0]) ⟨v, nm_r (e' := upd a4 0 x3.toInt8.toInt32) (by rw [sb_cl0]) H⟩⟩⟩
    · rw [if_neg k] at ehd
      rw [ehd] at H
      exact ⟨v, nm_r (e' := upd a2 0 x1.toInt8.toInt32) (by rw [sb_cl0]) ⟨v, nm_r (e' := upd a3 0 x2.toInt8.toInt32) (by rw [sb_cl0]) ⟨v, nm_r (e' := upd a4 0 x3.toInt8.toInt32) (by rw [sb_cl0]) H⟩⟩⟩
  rcases d3 with k | ⟨c1, c2⟩
  · exact br_t k A
  · exact br_c (fun _ => A) (fun _ => br_f c1 (br_f (fun z => c2 ((sm_56 c1).mp z)) A))
end
end
section
/-! the chain of calls, the cases, the law -/
section
variable {pr i o b mv kn : Int32} {M : Int64} {a1 a2 a3 a4 a5 a6 a7 a8 : Nat → Int32}
theorem sm_R1 : ¬ sm_im 1 0 ∧ sm_ct 1 64 = 1 := by decide +kernel
theorem sm_R0 : sm_im 0 0 ∧ sm_ct 0 64 = 0 ∧ ∀ j, j < 64 → sm_im 0 (nI j) := by decide +kernel
theorem sm_RF : ∀ h, h < 6 → sm_im (0 ||| sm_lb h) 0 ∧ sm_ct (0 ||| sm_lb h) 64 = 1 ∧ (∀ j, j < 2 ^ h → sm_im (0 ||| sm_lb h) (nI j)) ∧ ¬ sm_im (0 ||| sm_lb h) (nI (2 ^ h)) ∧ nI (2 ^ h) = sm_bt h ∧ ¬ (0 ||| sm_lb h) = 1 ∧ ¬ sm_bt h = 0 ∧ 2 ^ h < 64 := by decide +kernel
theorem sm_RC : ∀ h, h < 6 → ¬ sm_im (1 ||| sm_lb h) 0 ∧ sm_ct (1 ||| sm_lb h) 64 = 2 ∧ ¬ (1 ||| sm_lb h) = 1 := by decide +kernel
theorem sm_by : ∀ n, n < 64 → (nI n).toInt8.toInt32 = nI n := by decide +kernel
theorem sm_mb : ∀ h, h < 6 → ∀ m, m < 64 → ((nI m >>> (nI h &&& 31)) &&& 1 = 0 ↔ nI m &&& sm_bt h = 0) := by decide +kernel
abbrev sm_zz : Nat → Int32 := fun _ => 0
/-- what the set R answers: zero, how many, the first -/
def sm_an (R : Int64) (z n f : Int32) : Prop :=
  ((sm_im R 0 ∧ z = 0) ∨ (¬ sm_im R 0 ∧ z = 1)) ∧ sm_ct R 64 = n ∧ ((∃ d, d < 64 ∧ (∀ j, j < d → sm_im R (nI j)) ∧ ¬ sm_im R (nI d) ∧ f = nI d) ∨ ((∀ j, j < 64 → sm_im R (nI j)) ∧ f = -1))
theorem sm_an1 : sm_an 1 1 1 0 := ⟨Or.inr ⟨sm_R1.1, rfl⟩, sm_R1.2, Or.inl ⟨0, by omega, fun j hj => absurd hj (by omega), sm_R1.1, rfl⟩⟩
theorem sm_an0 : sm_an 0 0 0 (-1) := ⟨Or.inl ⟨sm_R0.1, rfl⟩, sm_R0.2.1, Or.inr ⟨sm_R0.2.2, rfl⟩⟩
theorem sm_anF {h : Nat} (hh : h < 6) : sm_an (0 ||| sm_lb h) 0 1 (sm_bt h) :=
  ⟨Or.inl ⟨(sm_RF h hh).1, rfl⟩, (sm_RF h hh).2.1, Or.inl ⟨2 ^ h, (sm_RF h hh).2.2.2.2.2.2.2, (sm_RF h hh).2.2.1, (sm_RF h hh).2.2.2.1, (sm_RF h hh).2.2.2.2.1.symm⟩⟩
theorem sm_anC {h : Nat} (hh : h < 6) : sm_an (1 ||| sm_lb h) 1 2 0 :=
  ⟨Or.inr ⟨(sm_RC h hh).1, rfl⟩, (sm_RC h hh).2.1, Or.inl ⟨0, by omega, fun j hj => absurd hj (by omega), (sm_RC h hh).1, rfl⟩⟩
theorem sm_modA {post : Int32 → St2 → Prop} {R : Int64} {z n f : Int32} (h : sm_an R z n f) (H : post f (pr, i, o, b, mv, 1, R, a1, a2, a3, a4, a5, a6, a7, a8)) : wpX_model post (pr, i, o, b, mv, 1, R, a1, a2, a3, a4, a5, a6, a7, a8) 0 := by
  rcases h.2.2 with ⟨d, hd, h0, h1, e⟩ | ⟨h0, e⟩
  · rw [e] at H
    exact sm_model hd h0 h1 H
  · rw [e] at H
    exact sm_modelN h0 H
/-- the chain of calls -/
theorem sm_chain {p0 p1 p2 p3 p4 g s z n f m : Int32} {R : Int64}
    (hadd : ∀ post : Int32 → St2 → Prop, post g (pr, 0, 0, 0, 0, 0, 0, a1, a2, a3, a4, sm_zz, sm_zz, sm_zz, sm_zz) → wpX_add post (0, 0, 0, 0, 0, 0, 0, sm_zz, sm_zz, sm_zz, sm_zz, sm_zz, sm_zz, sm_zz, sm_zz) p0 p1 p2 p3)
    (hsup : ∀ post : Int32 → Prop, post s → wpX_support post (pr, 0, 0, 0, 0, 0, 0, a1, a2, a3, a4, sm_zz, sm_zz, sm_zz, sm_zz) p4)
    (hsr : sm_sr pr a1 a2 a3 a4 R) (han : sm_an R z n f)
    (hm : ∀ (i o b mv : Int32) (a5 a6 a7 a8 : Nat → Int32) (post : Int32 → St2 → Prop), (∀ (pr i o b mv kn : Int32) (M : Int64) (a1 a2 a3 a4 a5 a6 a7 a8 : Nat → Int32), post m (pr, i, o, b, mv, kn, M, a1, a2, a3, a4, a5, a6, a7, a8)) → wpX_matters post (pr, i, o, b, mv, 1, R, a1, a2, a3, a4, a5, a6, a7, a8) 0)
    (H : sm_TL 38 592 p0 p1 p2 p3 p4 g s z n f m 38 592) : wpL_lawOf sm_P 38 592 () p0 p1 p2 p3 p4 := by
  refine ⟨by omega, by omega, 37, 577, by omega, by omega, ?_⟩
  refine ⟨by omega, by omega, by omega, by omega, by omega, by omega, by omega, by omega, by omega, by omega, by omega, by omega, by omega, by omega, by omega, by omega, ?_⟩
  refine hadd _ (hsup _ (sm_stable hsr han.1 (fun i1 o1 b1 m1 t5 t6 t7 t8 => ?_)))
  refine sm_models ?_
  rw [han.2.1]
  exact sm_modA han (hm _ _ _ _ _ _ _ _ _ (fun _ _ _ _ _ _ _ _ _ _ _ _ _ _ _ => H))
/-- a rule that isn't taken -/
theorem sm_bad {p0 p1 p2 p3 p4 : Int32} (h : ¬ sm_gd p0 p1 p2 p3) : wpL_lawOf sm_P 38 592 () p0 p1 p2 p3 p4 := by
  have T : ∀ s x14 x16, s = sm_sx x14 0 x16 → wL_lawOf_203 sm_P 38 592 p0 p2 p3 (-1) s 1 1 0 0 0 x14 0 x16 38 592 :=
    fun s x14 x16 e => sm_t203_0 (fun t => t.1 rfl) (sm_t223_0 (fun t => t.1 rfl) (sm_t251_0 (fun t => t.1 rfl) (sm_tE rfl e)))
  by_cases h4 : sm_is p4
  · exact sm_chain (fun _ t => sm_addN h t) (fun _ t => sm_supY h4 (sm_su0 t)) sm_sN sm_an1 (fun _ _ _ _ _ _ _ _ _ t => sm_mat0 t)
      (sm_TL0 h (sm_t120_1 h4 (sm_t139_0 (Or.inl rfl) (sm_t158 (fun _ => T 0 1 0 rfl) (fun t => absurd rfl t.1)))))
  · exact sm_chain (fun _ t => sm_addN h t) (fun _ t => sm_supN h4 t) sm_sN sm_an1 (fun _ _ _ _ _ _ _ _ _ t => sm_mat0 t)
      (sm_TL0 h (sm_t120_0 h4 (sm_t139_0 (Or.inl rfl) (sm_t158 (fun _ => T (-1) 0 0 rfl) (fun t => absurd rfl t.1)))))
/-- a rule that is taken -/
theorem sm_gL {p0 p1 p2 p3 p4 hd z n f m : Int32} {R : Int64} {h P N : Nat} (hh : h < 6) (hP : P < 64) (hN : N < 64) (hg : sm_gd p0 p1 p2 p3) (ehd : hd = if p0 = 2 then 0 else p1) (e1 : a1 = upd sm_zz 0 p0.toInt8.toInt32) (e2 : a2 = upd sm_zz 0 hd.toInt8.toInt32) (e3 : a3 = upd sm_zz 0 p2.toInt8.toInt32) (e4 : a4 = upd sm_zz 0 p3.toInt8.toInt32)
    (k1 : a1 0 = p0) (k2 : a2 0 = nI h) (k3 : a3 0 = p2) (k4 : a4 0 = p3) {x15 : Int32} (h15 : (p0 = 2 ∧ x15 = 0) ∨ (¬ p0 = 2 ∧ ¬ 2 ≤ p0 ∧ p1 = nI h ∧ x15 = sm_bt h))
    (hsr : sm_sr 1 a1 a2 a3 a4 R) (han : sm_an R z n f) (hm : (R = 1 ∧ m = 0) ∨ (¬ R = 1 ∧ m = 1))
    (HT : ∀ s x14 x16, s = sm_sx x14 x15 x16 → wL_lawOf_203 sm_P 38 592 p0 p2 p3 0 s z n f m 1 x14 x15 x16 38 592) : wpL_lawOf sm_P 38 592 () p0 p1 p2 p3 p4 := by
  have hadd : ∀ post : Int32 → St2 → Prop, post 0 (1, 0, 0, 0, 0, 0, 0, a1, a2, a3, a4, sm_zz, sm_zz, sm_zz, sm_zz) → wpX_add post (0, 0, 0, 0, 0, 0, 0, sm_zz, sm_zz, sm_zz, sm_zz, sm_zz, sm_zz, sm_zz, sm_zz) p0 p1 p2 p3 := by
    intro post t
    rw [e1, e2, e3, e4] at t
    exact sm_add1 hg ehd t
  have hmat : ∀ (i o b mv : Int32) (a5 a6 a7 a8 : Nat → Int32) (post : Int32 → St2 → Prop), (∀ (pr i o b mv kn : Int32) (M : Int64) (a1 a2 a3 a4 a5 a6 a7 a8 : Nat → Int32), post m (pr, i, o, b, mv, kn, M, a1, a2, a3, a4, a5, a6, a7, a8)) → wpX_matters post (1, i, o, b, mv, 1, R, a1, a2, a3, a4, a5, a6, a7, a8) 0 :=
    fun _ _ _ _ _ _ _ _ _ t => sm_mat1 hm t
  have c2 : p0 = 2 → (2 : Int32) ≤ p0 := fun e => by
    rw [e]
    decide
  have D : ∀ s x14, wL_lawOf_158 sm_P 38 592 p0 p2 p3 p4 0 s z n f m 1 x14 x15 38 592 → wL_lawOf_139 sm_P 38 592 p0 p1 p2 p3 p4 0 s z n f m 1 x14 38 592 := by
    intro s x14 t
    rcases h15 with ⟨q1, q2⟩ | ⟨q1, q2, q3, q4⟩
    · rw [q2] at t
      exact sm_t139_0 (Or.inr (c2 q1)) t
    · have q5 : x15 = (1 : Int32) <<< (p1 &&& 31) := by rw [q4, q3]
      rw [q5] at t
      exact sm_t139_1 (by decide) q2 t
  by_cases h4 : sm_is p4
  · obtain ⟨j, hj, ej⟩ := sm_isN h4
    have E : sm_sf a1 a2 a3 a4 p4 0 ↔ sm_fi p0 p2 p3 p4 1 1 x15 := by
      unfold sm_sf sm_fi
      rw [k1, k2, k3, k4, sm_x0]
      rcases h15 with ⟨q1, q2⟩ | ⟨q1, q2, q3, q4⟩
      · exact ⟨fun t => absurd q1 t.1, fun t => absurd (c2 q1) t.2.1⟩
      · have w : (p4 >>> (nI h &&& 31)) &&& 1 = 0 ↔ p4 &&& x15 = 0 := by
          rw [ej, q4]
          exact sm_mb h hh j hj
        rw [w]
        exact ⟨fun t => ⟨by decide, q2, t.2.2.1, by decide, t.2.1, t.2.2.2⟩, fun t => ⟨q1, t.2.2.2.2.1, t.2.2.1, t.2.2.2.2.2⟩⟩
    by_cases hf : sm_fi p0 p2 p3 p4 1 1 x15
    · have q4 : x15 = sm_bt h := by
        rcases h15 with ⟨q1, q2⟩ | ⟨q1, q2, q3, q4⟩
        · exact absurd (c2 q1) hf.2.1
        · exact q4
      refine sm_chain hadd (fun _ t => sm_supY h4 (sm_sub k2 (by rw [k3]; exact hf.2.2.1) (E.mpr hf) (by rw [← q4]; exact t))) hsr han hmat
        (sm_TL1 hg (sm_t120_1 h4 (D _ _ (sm_t158 (fun t => absurd hf t) (fun _ => HT _ _ _ rfl)))))
    · exact sm_chain hadd (fun _ t => sm_supY h4 (sm_suz (fun t => hf (E.mp t)) t)) hsr han hmat
        (sm_TL1 hg (sm_t120_1 h4 (D _ _ (sm_t158 (fun _ => HT 0 1 0 rfl) (fun t => absurd t hf)))))
  · exact sm_chain hadd (fun _ t => sm_supN h4 t) hsr han hmat
      (sm_TL1 hg (sm_t120_0 h4 (D _ _ (sm_t158 (fun _ => HT (-1) 0 0 rfl) (fun t => absurd rfl t.2.2.2.1)))))
theorem sm_good {p0 p1 p2 p3 p4 : Int32} (hg : sm_gd p0 p1 p2 p3) : wpL_lawOf sm_P 38 592 () p0 p1 p2 p3 p4 := by
  obtain ⟨P, hP, eP⟩ := sm_isN hg.1
  obtain ⟨N, hN, eN⟩ := sm_isN hg.2.1
  have k3 : upd sm_zz 0 p2.toInt8.toInt32 0 = p2 := by rw [pk_us, eP, sm_by P hP]
  have k4 : upd sm_zz 0 p3.toInt8.toInt32 0 = p3 := by rw [pk_us, eN, sm_by N hN]
  have K : p0 = 0 ∨ p0 = 1 ∨ p0 = 2 := by
    obtain ⟨j, hj, e⟩ := nI_of hg.2.2.1
    have t := hg.2.2.2.1
    rw [e] at t
    have j3 : j < 3 := by
      rcases Nat.lt_or_ge j 3 with z | z
      · exact z
      · exact absurd (nI_lt (a := 2) (b := j) (by omega) hj) t
    rcases (show j = 0 ∨ j = 1 ∨ j = 2 by omega) with z | z | z
    · exact Or.inl (by rw [e, z]; rfl)
    · exact Or.inr (Or.inl (by rw [e, z]; rfl))
    · exact Or.inr (Or.inr (by rw [e, z]; rfl))
  have k1 : upd sm_zz 0 p0.toInt8.toInt32 0 = p0 := by
    rw [pk_us]
    rcases K with e | e | e
    · rw [e]; rfl
    · rw [e]; rfl
    · rw [e]; rfl
  have X3 : ∀ x : Int32, p2 = 0 → upd sm_zz 0 p2.toInt8.toInt32 0 = 0 := fun _ z => by rw [k3, z]
  have PZ : p2 = 0 ∨ (¬ p2 = 0 ∧ P ≠ 0) := by
    by_cases z : P = 0
    · exact Or.inl (by rw [eP, z]; rfl)
    · exact Or.inr ⟨by rw [eP]; exact sm_nz hP z, z⟩
  by_cases e2 : p0 = 2
  · have k2 : upd sm_zz 0 (0 : Int32).toInt8.toInt32 0 = nI 0 := by rw [pk_us]; rfl
    have n0 : ¬ p0 = 0 := by rw [e2]; decide
    have n1 : ¬ p0 = 1 := by rw [e2]; decide
    rcases PZ with z | ⟨z, zP⟩
    · exact sm_gL (h := 0) (by omega) hP hN hg (if_pos e2).symm rfl rfl rfl rfl k1 k2 k3 k4 (Or.inl ⟨e2, rfl⟩) (sm_sB hN (by rw [k3, z]) (by rw [k4, eN]) (by rw [k1, e2])) sm_an0 (Or.inr ⟨by decide, rfl⟩)
        (fun s x14 x16 e => sm_t203_0 (fun t => n0 t.2.1) (sm_t223_0 (fun t => n1 t.2.1) (sm_t251_1 ⟨by decide, e2, z⟩ (sm_tB rfl e))))
    · exact sm_gL (h := 0) (by omega) hP hN hg (if_pos e2).symm rfl rfl rfl rfl k1 k2 k3 k4 (Or.inl ⟨e2, rfl⟩) (sm_sP hP zP hN (by rw [k3, eP]) (by rw [k4, eN]) (Or.inr (Or.inr (by rw [k1, e2])))) sm_an1 (Or.inl ⟨rfl, rfl⟩)
        (fun s x14 x16 e => sm_t203_0 (fun t => n0 t.2.1) (sm_t223_0 (fun t => n1 t.2.1) (sm_t251_0 (fun t => z t.2.2) (sm_tE rfl e))))
  · have H1 : ¬ p1 < 0 ∧ ¬ 5 < p1 := hg.2.2.2.2.resolve_left e2
    obtain ⟨h, hh, eh⟩ : ∃ h, h < 6 ∧ p1 = nI h := by
      obtain ⟨j, hj, e⟩ := nI_of H1.1
      have t := H1.2
      rw [e] at t
      refine ⟨j, ?_, e⟩
      rcases Nat.lt_or_ge j 6 with z | z
      · exact z
      · exact absurd (nI_lt (a := 5) (b := j) (by omega) hj) t
    have k2 : upd sm_zz 0 p1.toInt8.toInt32 0 = nI h := by rw [pk_us, eh, sm_q2 h hh]
    have l2 : ¬ 2 ≤ p0 := by
      rcases K with e | e | e
      · rw [e]; decide
      · rw [e]; decide
      · exact absurd e e2
    have h15 : (p0 = 2 ∧ sm_bt h = 0) ∨ (¬ p0 = 2 ∧ ¬ 2 ≤ p0 ∧ p1 = nI h ∧ sm_bt h = sm_bt h) := Or.inr ⟨e2, l2, eh, rfl⟩
    rcases PZ with z | ⟨z, zP⟩
    · by_cases hb : nI N &&& sm_bt h = 0
      · have hb' : p3 &&& sm_bt h = 0 := by rw [eN]; exact hb
        rcases K with e | e | e
        · exact sm_gL hh hP hN hg (if_neg e2).symm rfl rfl rfl rfl k1 k2 k3 k4 h15 (sm_sF hh hN k2 (by rw [k3, z]) (by rw [k4, eN]) (by rw [k1, e]) hb) (sm_anF hh) (Or.inr ⟨(sm_RF h hh).2.2.2.2.2.1, rfl⟩)
            (fun s x14 x16 u => sm_t203_1 ⟨by decide, e, z⟩ (sm_t223_0 (fun t => absurd (e.symm.trans t.2.1) (by decide)) (sm_t251_0 (fun t => e2 t.2.1) (sm_tF rfl u hb' (sm_RF h hh).2.2.2.2.2.2.1))))
        · exact sm_gL hh hP hN hg (if_neg e2).symm rfl rfl rfl rfl k1 k2 k3 k4 h15 (sm_sC hh hN k2 (by rw [k3, z]) (by rw [k4, eN]) (by rw [k1, e]) hb) (sm_anC hh) (Or.inr ⟨(sm_RC h hh).2.2, rfl⟩)
            (fun s x14 x16 u => sm_t203_0 (fun t => absurd (e.symm.trans t.2.1) (by decide)) (sm_t223_1 ⟨by decide, e, z, hb'⟩ (sm_t251_0 (fun t => e2 t.2.1) (sm_tC rfl u))))
        · exact absurd e e2
      · have hb' : ¬ p3 &&& sm_bt h = 0 := by rw [eN]; exact hb
        rcases K with e | e | e
        · exact sm_gL hh hP hN hg (if_neg e2).symm rfl rfl rfl rfl k1 k2 k3 k4 h15 (sm_sG hh hN k2 (by rw [k3, z]) (by rw [k4, eN]) (by rw [k1, e]) hb) sm_an0 (Or.inr ⟨by decide, rfl⟩)
            (fun s x14 x16 u => sm_t203_1 ⟨by decide, e, z⟩ (sm_t223_0 (fun t => absurd (e.symm.trans t.2.1) (by decide)) (sm_t251_0 (fun t => e2 t.2.1) (sm_tG rfl u hb'))))
        · exact sm_gL hh hP hN hg (if_neg e2).symm rfl rfl rfl rfl k1 k2 k3 k4 h15 (sm_sD hh hN k2 (by rw [k3, z]) (by rw [k4, eN]) (by rw [k1, e]) hb) sm_an1 (Or.inl ⟨rfl, rfl⟩)
            (fun s x14 x16 u => sm_t203_0 (fun t => absurd (e.symm.trans t.2.1) (by decide)) (sm_t223_0 (fun t => hb' t.2.2.2) (sm_t251_0 (fun t => e2 t.2.1) (sm_tE rfl u))))
        · exact absurd e e2
    · have kk : upd sm_zz 0 p0.toInt8.toInt32 0 = 0 ∨ upd sm_zz 0 p0.toInt8.toInt32 0 = 1 ∨ upd sm_zz 0 p0.toInt8.toInt32 0 = 2 := by
        rw [k1]
        exact K
      exact sm_gL hh hP hN hg (if_neg e2).symm rfl rfl rfl rfl k1 k2 k3 k4 h15 (sm_sP hP zP hN (by rw [k3, eP]) (by rw [k4, eN]) kk) sm_an1 (Or.inl ⟨rfl, rfl⟩)
        (fun s x14 x16 e => sm_t203_0 (fun t => z t.2.2) (sm_t223_0 (fun t => z t.2.2.1) (sm_t251_0 (fun t => z t.2.2) (sm_tE rfl e))))
theorem sm_law (p0 p1 p2 p3 p4 : Int32) : wpL_lawOf sm_P 38 592 () p0 p1 p2 p3 p4 := by
  by_cases h : sm_gd p0 p1 p2 p3
  · exact sm_good h
  · exact sm_bad h
end
end
section
theorem sm_cell {post : Int32 → Prop} {L : Nat} {xs : Nat → Int32} (hL : L ≤ 5) (j : Nat) (hj : j < 5) (H : ∀ v, post v) : wpL_cellAt post L xs () (nI j) :=
  br_c (fun _ => H _) (fun h => ⟨pk_in j L (by
    rcases Nat.lt_or_ge j L with z | z
    · exact z
    · exact absurd (nI_le z (by omega)) h), H _⟩)
theorem i_vc (xs : Nat → Int32) (L : Nat) (hL : L ≤ 5) : wpL_law (fun r => r = 1) L xs :=
  sm_cell hL 0 (by omega) (fun p0 => sm_cell hL 1 (by omega) (fun p1 => sm_cell hL 2 (by omega) (fun p2 => sm_cell hL 3 (by omega) (fun p3 => sm_cell hL 4 (by omega) (fun p4 => ⟨38, 592, by omega, by omega, sm_law p0 p1 p2 p3 p4⟩)))))
end
