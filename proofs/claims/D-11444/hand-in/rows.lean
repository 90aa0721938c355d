section
/-! small rows and small methods: slot, purgeQueue, squashTo, stopThread, clamp, good -/
section
variable {m w wd fr : Nat} {a1 a2 a3 a4 a5 a6 a7 a8 a9 a10 a11 a12 a13 a14 a15 a16 a17 a18 a19 a20 a21 a22 a23 a24 a25 a26 a27 a28 a29 a30 a31 a32 a33 a34 a35 a36 a37 : Nat → Int32}
theorem sm_12 (t : Nat) : nI t * 12 + 0 = nI (t * 12) := by
  rw [Int32.add_zero]
  exact pk_mul t 12
theorem sm_m1 {x : Int32} (h : x = 0) : x - 1 = -1 := by
  subst h
  decide
theorem sm_10 {x : Int32} (h : x = 1) : x - 1 = 0 := by
  subst h
  decide
theorem sm_cl {t : Nat} (h : t < 48) : (nI t).toNatClampNeg = t := nI_clamp (by omega)
theorem sm_clamp (x : Int32) (lo hi : Nat) (h : lo ≤ hi) (hh : hi < 2 ^ 31) : ∃ k, lo ≤ k ∧ k ≤ hi ∧ (nI lo ≤ x → x ≤ nI hi → x = nI k) ∧ (nI lo ≤ x → ¬ x ≤ nI hi → k = hi) ∧ (¬ nI lo ≤ x → k = lo) ∧ ∀ pr : Int32 → Prop, pr (nI k) → wpX_clamp pr () x (nI lo) (nI hi) := by
  by_cases h1 : nI lo ≤ x
  · by_cases h2 : x ≤ nI hi
    · have hx : ¬ x < 0 := by
        intro z
        have e1 := Int32.le_iff_toInt_le.mp h1
        have e2 := Int32.lt_iff_toInt_lt.mp z
        rw [nI_toInt (by omega)] at e1
        have e3 : (0 : Int32).toInt = 0 := by decide
        omega
      obtain ⟨k, hk, rfl⟩ := nI_of hx
      have g1 := (nI_leI (by omega) hk).mp h1
      have g2 := (nI_leI hk hh).mp h2
      exact ⟨k, g1, g2, fun _ _ => rfl, fun _ z => absurd h2 z, fun z => absurd h1 z, fun pr hp => br_t h1 (br_t h2 hp)⟩
    · exact ⟨hi, h, Nat.le_refl _, fun _ z => absurd z h2, fun _ _ => rfl, fun z => absurd h1 z, fun pr hp => br_t h1 (br_f h2 hp)⟩
  · exact ⟨lo, Nat.le_refl _, h, fun z => absurd z h1, fun z => absurd z h1, fun _ => rfl, fun pr hp => br_f h1 hp⟩
theorem sm_good1 {pr : Int32 → Prop} {t : Nat} (ht : t < m) (hm : m ≤ 4) (H : pr 1) : wpX_good pr ((nI m), (nI w), (nI wd), (nI fr), 0, 0, a1, a2, a3, a4, a5, a6, a7, a8, a9, a10, a11, a12, a13, a14, a15, a16, a17, a18, a19, a20, a21, a22, a23, a24, a25, a26, a27, a28, a29, a30, a31, a32, a33, a34, a35, a36, a37) (nI t) :=
  br_f (nI_pos (by omega)) (br_f (nI_ge ht (by omega)) H)
theorem sm_good0 {pr : Int32 → Prop} {x : Int32} (h : x < 0 ∨ nI m ≤ x) (H : pr 0) : wpX_good pr ((nI m), (nI w), (nI wd), (nI fr), 0, 0, a1, a2, a3, a4, a5, a6, a7, a8, a9, a10, a11, a12, a13, a14, a15, a16, a17, a18, a19, a20, a21, a22, a23, a24, a25, a26, a27, a28, a29, a30, a31, a32, a33, a34, a35, a36, a37) x :=
  br_c (fun _ => H) (fun z => br_t (h.resolve_left z) H)
theorem sm_slot {pr : Int32 → Prop} {t : Nat} (ht : t < 4) (h15 : a15 t = 0) (H : pr (nI (t * 12))) : wpX_slot pr ((nI m), (nI w), (nI wd), (nI fr), 0, 0, a1, a2, a3, a4, a5, a6, a7, a8, a9, a10, a11, a12, a13, a14, a15, a16, a17, a18, a19, a20, a21, a22, a23, a24, a25, a26, a27, a28, a29, a30, a31, a32, a33, a34, a35, a36, a37) (nI t) 0 := by
  unfold wpX_slot
  dsimp only
  refine ⟨pk_in t 4 ht, nm_r (e' := 0) (by rw [sm_cl (by omega), h15]; decide) (br_t (by decide) ?_)⟩
  rw [sm_12]
  exact H
theorem sm_purge {post : St2 → Prop} (H : post ((nI m), (nI w), (nI wd), (nI fr), 0, 0, a1, a2, a3, a4, a5, a6, a7, a8, a9, a10, a11, a12, a13, a14, a15, a16, a17, a18, a19, a20, a21, a22, a23, a24, a25, a26, a27, a28, a29, a30, a31, a32, a33, a34, a35, a36, a37)) : wpX_purgeQueue post ((nI m), (nI w), (nI wd), (nI fr), 0, 0, a1, a2, a3, a4, a5, a6, a7, a8, a9, a10, a11, a12, a13, a14, a15, a16, a17, a18, a19, a20, a21, a22, a23, a24, a25, a26, a27, a28, a29, a30, a31, a32, a33, a34, a35, a36, a37) :=
  ⟨1, br_t (by decide) H⟩
/-- squashTo(t, 0), at most one entry in flight, and that without a register -/
theorem sm_sq {post : St2 → Prop} {t : Nat} (ht : t < 4) (h15 : a15 t = 0) (hc : a16 t = 0 ∨ (a16 t = 1 ∧ a21 (t * 12) = -1))
    (H : ∀ b16 b30 : Nat → Int32, b16 t = 0 → (∀ j, j ≠ t → b16 j = a16 j) → post ((nI m), (nI w), (nI wd), (nI fr), 0, 0, a1, a2, a3, a4, a5, a6, a7, a8, a9, a10, a11, a12, a13, a14, a15, b16, a17, a18, a19, a20, a21, a22, a23, a24, a25, a26, a27, a28, a29, b30, a31, a32, a33, a34, a35, a36, a37)) :
    wpX_squashTo post ((nI m), (nI w), (nI wd), (nI fr), 0, 0, a1, a2, a3, a4, a5, a6, a7, a8, a9, a10, a11, a12, a13, a14, a15, a16, a17, a18, a19, a20, a21, a22, a23, a24, a25, a26, a27, a28, a29, a30, a31, a32, a33, a34, a35, a36, a37) (nI t) 0 := by
  unfold wpX_squashTo
  dsimp only
  refine ⟨pk_in t 4 ht, ?_⟩
  rcases hc with hc | ⟨hc, h21⟩
  · exact nm_r (e' := -1) (by rw [sm_cl (by omega)]; exact sm_m1 hc) ⟨1, br_t (by decide) (sm_purge (H a16 a30 hc (fun j _ => rfl)))⟩
  · refine nm_r (e' := 0) (by rw [sm_cl (by omega)]; exact sm_10 hc) ⟨2, br_f (by decide) (sm_slot ht h15 ⟨pk_in (t * 12) 48 (by omega), br_t (by rw [sm_cl (by omega), h21]; decide) ?_⟩)⟩
    refine ⟨pk_in (t * 12) 48 (by omega), nm_e ⟨pk_in t 4 ht, nm_e (nm_r (e' := -1) (by decide) (br_t (by decide) (sm_purge ?_)))⟩⟩
    refine H _ _ ?_ ?_
    · rw [sm_cl (by omega)]
      exact pk_us
    · intro j hj
      rw [sm_cl (by omega)]
      exact pk_un hj
theorem sm_stop {post : St2 → Prop} {t : Nat} (ht : t < 4) (h15 : a15 t = 0) (hc : a16 t = 0 ∨ (a16 t = 1 ∧ a21 (t * 12) = -1))
    (H : ∀ b16 b30 b36 : Nat → Int32, b16 t = 0 → (∀ j, j ≠ t → b16 j = a16 j) → b36 t = 0 → (∀ j, j ≠ t → b36 j = a36 j) → post ((nI m), (nI w), (nI wd), (nI fr), 0, 0, a1, a2, a3, a4, a5, a6, a7, a8, a9, a10, a11, a12, a13, a14, a15, b16, a17, a18, a19, a20, a21, a22, a23, a24, a25, a26, a27, a28, a29, b30, a31, a32, a33, a34, a35, b36, a37)) :
    wpX_stopThread post ((nI m), (nI w), (nI wd), (nI fr), 0, 0, a1, a2, a3, a4, a5, a6, a7, a8, a9, a10, a11, a12, a13, a14, a15, a16, a17, a18, a19, a20, a21, a22, a23, a24, a25, a26, a27, a28, a29, a30, a31, a32, a33, a34, a35, a36, a37) (nI t) := by
  unfold wpX_stopThread
  dsimp only
  refine sm_sq ht h15 hc (fun b16 b30 h1 h2 => ⟨pk_in t 4 ht, nm_e ?_⟩)
  refine H b16 b30 _ h1 h2 ?_ ?_
  · rw [sm_cl (by omega)]
    exact pk_us
  · intro j hj
    rw [sm_cl (by omega)]
    exact pk_un hj
end
end
section
/-! retirement: a thread with quota and no entry stays; a stopped one stays; the others are stopped -/
section
variable {m w wd fr : Nat} {a1 a2 a3 a4 a5 a6 a7 a8 a9 a10 a11 a12 a13 a14 a15 a16 a17 a18 a19 a20 a21 a22 a23 a24 a25 a26 a27 a28 a29 a30 a31 a32 a33 a34 a35 a36 a37 : Nat → Int32}
/-- fresh: active, no entry, may fetch, status 0 -/
def sm_P0 (a6 a16 a33 a36 : Nat → Int32) (t : Nat) : Prop := a36 t = 1 ∧ a16 t = 0 ∧ a33 t = 0 ∧ a6 t = 0
/-- one entry in flight, done, that stops the thread -/
def sm_P1 (a16 a18 a20 a21 a36 : Nat → Int32) (t : Nat) : Prop := a36 t = 1 ∧ a16 t = 1 ∧ a18 (t * 12) = 2 ∧ a20 (t * 12) = 4 ∧ a21 (t * 12) = -1
/-- stopped, its status st -/
def sm_P2 (st : Int32) (a6 a16 a36 : Nat → Int32) (t : Nat) : Prop := a36 t = 0 ∧ a16 t = 0 ∧ a6 t = st
/-- retirement stops this thread -/
def sm_R (Q st : Int32) (a6 a16 a18 a20 a21 a33 a36 : Nat → Int32) (t : Nat) : Prop :=
  (Q ≠ 0 ∧ st = 4 ∧ sm_P1 a16 a18 a20 a21 a36 t) ∨ (Q = 0 ∧ st = 0 ∧ sm_P0 a6 a16 a33 a36 t)
/-- thread j when retirement has passed i threads; it leaves e threads stopped -/
def sm_G (Q st : Int32) (e i : Nat) (a6 a16 a18 a20 a21 a33 a36 : Nat → Int32) (j : Nat) : Prop :=
  (e ≤ j ∧ Q ≠ 0 ∧ sm_P0 a6 a16 a33 a36 j) ∨ (j < e ∧ sm_P2 st a6 a16 a36 j) ∨ (j < e ∧ i ≤ j ∧ sm_R Q st a6 a16 a18 a20 a21 a33 a36 j)
theorem sm_r1a {post : St2 → Prop} {t : Nat} (ht : t < 4) (hq : ¬ a37 t = 0) (hc : a16 t = 0) (H : post ((nI m), (nI w), (nI wd), (nI fr), 0, 0, a1, a2, a3, a4, a5, a6, a7, a8, a9, a10, a11, a12, a13, a14, a15, a16, a17, a18, a19, a20, a21, a22, a23, a24, a25, a26, a27, a28, a29, a30, a31, a32, a33, a34, a35, a36, a37)) : wpX_retireOne post ((nI m), (nI w), (nI wd), (nI fr), 0, 0, a1, a2, a3, a4, a5, a6, a7, a8, a9, a10, a11, a12, a13, a14, a15, a16, a17, a18, a19, a20, a21, a22, a23, a24, a25, a26, a27, a28, a29, a30, a31, a32, a33, a34, a35, a36, a37) (nI t) := by
  unfold wpX_retireOne
  dsimp only
  exact ⟨pk_in t 4 ht, br_f (by rw [sm_cl (by omega)]; exact hq) ⟨pk_in t 4 ht, br_t (by rw [sm_cl (by omega)]; exact hc) H⟩⟩
theorem sm_r1 {post : St2 → Prop} {t : Nat} {Q st : Int32} (ht : t < 4) (h15 : a15 t = 0) (hq : a37 t = Q) (hR : sm_R Q st a6 a16 a18 a20 a21 a33 a36 t)
    (H : ∀ b6 b16 b30 b36 : Nat → Int32, sm_P2 st b6 b16 b36 t → (∀ j, j ≠ t → b6 j = a6 j ∧ b16 j = a16 j ∧ b36 j = a36 j) → post ((nI m), (nI w), (nI wd), (nI fr), 0, 0, a1, a2, a3, a4, a5, b6, a7, a8, a9, a10, a11, a12, a13, a14, a15, b16, a17, a18, a19, a20, a21, a22, a23, a24, a25, a26, a27, a28, a29, b30, a31, a32, a33, a34, a35, b36, a37)) :
    wpX_retireOne post ((nI m), (nI w), (nI wd), (nI fr), 0, 0, a1, a2, a3, a4, a5, a6, a7, a8, a9, a10, a11, a12, a13, a14, a15, a16, a17, a18, a19, a20, a21, a22, a23, a24, a25, a26, a27, a28, a29, a30, a31, a32, a33, a34, a35, a36, a37) (nI t) := by
  unfold wpX_retireOne
  dsimp only
  rcases hR with ⟨hQ, hst, h36, h16, h18, h20, h21⟩ | ⟨hQ, hst, h36, h16, h33, h6⟩
  · refine ⟨pk_in t 4 ht, br_f (by rw [sm_cl (by omega), hq]; exact hQ) ⟨pk_in t 4 ht, br_f (by rw [sm_cl (by omega), h16]; decide) (sm_slot ht h15 ?_)⟩⟩
    refine ⟨pk_in (t * 12) 48 (by omega), br_t (by rw [sm_cl (by omega)]; exact h18) ⟨pk_in (t * 12) 48 (by omega), br_f (by rw [sm_cl (by omega), h20]; decide) ⟨pk_in (t * 12) 48 (by omega), pk_in t 4 ht, nm_e (sm_stop ht h15 (Or.inr ⟨h16, h21⟩) ?_)⟩⟩⟩
    intro b16 b30 b36 k1 k2 k3 k4
    refine H (upd a6 (nI t).toNatClampNeg (a20 (nI (t * 12)).toNatClampNeg)) b16 b30 b36 ⟨k3, k1, ?_⟩ (fun j hj => ⟨?_, k2 j hj, k4 j hj⟩)
    · rw [sm_cl (by omega), sm_cl (by omega), pk_us, h20, hst]
    · rw [sm_cl (show t < 48 by omega), pk_un hj]
  · refine ⟨pk_in t 4 ht, br_t (by rw [sm_cl (by omega), hq]; exact hQ) (sm_stop ht h15 (Or.inl h16) ?_)⟩
    intro b16 b30 b36 k1 k2 k3 k4
    exact H a6 b16 b30 b36 ⟨k3, k1, by rw [h6, hst]⟩ (fun j hj => ⟨rfl, k2 j hj, k4 j hj⟩)
theorem sm_r12a {post : St2 → Prop} {J2 : Int32 → Int32 → Int32 → Int32 → Int32 → Int32 → Int32 → (Nat → Int32) → (Nat → Int32) → (Nat → Int32) → (Nat → Int32) → (Nat → Int32) → (Nat → Int32) → (Nat → Int32) → (Nat → Int32) → (Nat → Int32) → (Nat → Int32) → (Nat → Int32) → (Nat → Int32) → (Nat → Int32) → (Nat → Int32) → (Nat → Int32) → (Nat → Int32) → (Nat → Int32) → (Nat → Int32) → (Nat → Int32) → (Nat → Int32) → (Nat → Int32) → (Nat → Int32) → (Nat → Int32) → (Nat → Int32) → (Nat → Int32) → (Nat → Int32) → (Nat → Int32) → (Nat → Int32) → (Nat → Int32) → (Nat → Int32) → (Nat → Int32) → (Nat → Int32) → (Nat → Int32) → (Nat → Int32) → (Nat → Int32) → (Nat → Int32) → (Nat → Int32) → Prop} {t : Nat} (ht : t < 4) (hw : 1 ≤ w) (hw4 : w ≤ 4) (h36 : a36 t = 0) (H : J2 (nI (t + 1)) (nI m) (nI w) (nI wd) (nI fr) 0 0 a1 a2 a3 a4 a5 a6 a7 a8 a9 a10 a11 a12 a13 a14 a15 a16 a17 a18 a19 a20 a21 a22 a23 a24 a25 a26 a27 a28 a29 a30 a31 a32 a33 a34 a35 a36 a37) :
    ∃ fu, wX_retireStage_12 post J2 (nI t) fu 0 (nI m) (nI w) (nI wd) (nI fr) 0 0 a1 a2 a3 a4 a5 a6 a7 a8 a9 a10 a11 a12 a13 a14 a15 a16 a17 a18 a19 a20 a21 a22 a23 a24 a25 a26 a27 a28 a29 a30 a31 a32 a33 a34 a35 a36 a37 :=
  ⟨1, br_f (nI_ge (a := 0) hw (by omega)) ⟨pk_in t 4 ht, br_t (by rw [sm_cl (by omega)]; exact h36) (nm_r (nI_1 t) H)⟩⟩
theorem sm_r12b {post : St2 → Prop} {J2 : Int32 → Int32 → Int32 → Int32 → Int32 → Int32 → Int32 → (Nat → Int32) → (Nat → Int32) → (Nat → Int32) → (Nat → Int32) → (Nat → Int32) → (Nat → Int32) → (Nat → Int32) → (Nat → Int32) → (Nat → Int32) → (Nat → Int32) → (Nat → Int32) → (Nat → Int32) → (Nat → Int32) → (Nat → Int32) → (Nat → Int32) → (Nat → Int32) → (Nat → Int32) → (Nat → Int32) → (Nat → Int32) → (Nat → Int32) → (Nat → Int32) → (Nat → Int32) → (Nat → Int32) → (Nat → Int32) → (Nat → Int32) → (Nat → Int32) → (Nat → Int32) → (Nat → Int32) → (Nat → Int32) → (Nat → Int32) → (Nat → Int32) → (Nat → Int32) → (Nat → Int32) → (Nat → Int32) → (Nat → Int32) → (Nat → Int32) → (Nat → Int32) → Prop} {t : Nat} (ht : t < 4) (hw4 : w ≤ 4) (h36 : a36 t = 1) (hq : ¬ a37 t = 0) (hc : a16 t = 0) (H : J2 (nI (t + 1)) (nI m) (nI w) (nI wd) (nI fr) 0 0 a1 a2 a3 a4 a5 a6 a7 a8 a9 a10 a11 a12 a13 a14 a15 a16 a17 a18 a19 a20 a21 a22 a23 a24 a25 a26 a27 a28 a29 a30 a31 a32 a33 a34 a35 a36 a37) :
    ∃ fu, wX_retireStage_12 post J2 (nI t) fu 0 (nI m) (nI w) (nI wd) (nI fr) 0 0 a1 a2 a3 a4 a5 a6 a7 a8 a9 a10 a11 a12 a13 a14 a15 a16 a17 a18 a19 a20 a21 a22 a23 a24 a25 a26 a27 a28 a29 a30 a31 a32 a33 a34 a35 a36 a37 :=
  pk_loop (σ := Unit) (fun n i _ => wX_retireStage_12 post J2 (nI t) n (nI i) (nI m) (nI w) (nI wd) (nI fr) 0 0 a1 a2 a3 a4 a5 a6 a7 a8 a9 a10 a11 a12 a13 a14 a15 a16 a17 a18 a19 a20 a21 a22 a23 a24 a25 a26 a27 a28 a29 a30 a31 a32 a33 a34 a35 a36 a37) (fun _ _ => True) w 0 () (by omega) trivial
    (fun n _ _ => pk_le w w (fun _ => nm_r (nI_1 t) H) (fun z => absurd z (by omega)))
    (fun n i _ hi _ hw => pk_le w i (fun z => absurd z (by omega)) (fun _ => ⟨pk_in t 4 ht, br_f (by rw [sm_cl (by omega), h36]; decide) (sm_r1a ht hq hc (nm_r (nI_1 i) (hw () trivial)))⟩))
theorem sm_r12c {post : St2 → Prop} {J2 : Int32 → Int32 → Int32 → Int32 → Int32 → Int32 → Int32 → (Nat → Int32) → (Nat → Int32) → (Nat → Int32) → (Nat → Int32) → (Nat → Int32) → (Nat → Int32) → (Nat → Int32) → (Nat → Int32) → (Nat → Int32) → (Nat → Int32) → (Nat → Int32) → (Nat → Int32) → (Nat → Int32) → (Nat → Int32) → (Nat → Int32) → (Nat → Int32) → (Nat → Int32) → (Nat → Int32) → (Nat → Int32) → (Nat → Int32) → (Nat → Int32) → (Nat → Int32) → (Nat → Int32) → (Nat → Int32) → (Nat → Int32) → (Nat → Int32) → (Nat → Int32) → (Nat → Int32) → (Nat → Int32) → (Nat → Int32) → (Nat → Int32) → (Nat → Int32) → (Nat → Int32) → (Nat → Int32) → (Nat → Int32) → (Nat → Int32) → (Nat → Int32) → Prop} {t : Nat} {Q st : Int32} (ht : t < 4) (hw : 1 ≤ w) (hw4 : w ≤ 4) (h15 : a15 t = 0) (hq : a37 t = Q) (hR : sm_R Q st a6 a16 a18 a20 a21 a33 a36 t)
    (H : ∀ b6 b16 b30 b36 : Nat → Int32, sm_P2 st b6 b16 b36 t → (∀ j, j ≠ t → b6 j = a6 j ∧ b16 j = a16 j ∧ b36 j = a36 j) → J2 (nI (t + 1)) (nI m) (nI w) (nI wd) (nI fr) 0 0 a1 a2 a3 a4 a5 b6 a7 a8 a9 a10 a11 a12 a13 a14 a15 b16 a17 a18 a19 a20 a21 a22 a23 a24 a25 a26 a27 a28 a29 b30 a31 a32 a33 a34 a35 b36 a37) :
    ∃ fu, wX_retireStage_12 post J2 (nI t) fu 0 (nI m) (nI w) (nI wd) (nI fr) 0 0 a1 a2 a3 a4 a5 a6 a7 a8 a9 a10 a11 a12 a13 a14 a15 a16 a17 a18 a19 a20 a21 a22 a23 a24 a25 a26 a27 a28 a29 a30 a31 a32 a33 a34 a35 a36 a37 := by
  have h36 : a36 t = 1 := by
    rcases hR with ⟨_, _, h, _⟩ | ⟨_, _, h, _⟩
    · exact h
    · exact h
  refine ⟨2, br_f (nI_ge (a := 0) hw (by omega)) ⟨pk_in t 4 ht, br_f (by rw [sm_cl (by omega), h36]; decide) (sm_r1 ht h15 hq hR ?_)⟩⟩
  intro b6 b16 b30 b36 k1 k2
  exact nm_r (e' := 1) (by decide) (br_c (fun _ => nm_r (nI_1 t) (H b6 b16 b30 b36 k1 k2)) (fun _ => ⟨pk_in t 4 ht, br_t (by rw [sm_cl (by omega)]; exact k1.1) (nm_r (nI_1 t) (H b6 b16 b30 b36 k1 k2))⟩))
theorem sm_r2 {post : St2 → Prop} {Q st : Int32} {e : Nat} (hm : m ≤ 4) (hw : 1 ≤ w) (hw4 : w ≤ 4) (h15 : ∀ j, j < m → a15 j = 0) (hq : ∀ j, j < m → a37 j = Q)
    (H : ∀ b6 b16 b30 b36 : Nat → Int32, (∀ j, j < m → sm_G Q st e m b6 b16 a18 a20 a21 a33 b36 j) → post ((nI m), (nI w), (nI wd), (nI fr), 0, 0, a1, a2, a3, a4, a5, b6, a7, a8, a9, a10, a11, a12, a13, a14, a15, b16, a17, a18, a19, a20, a21, a22, a23, a24, a25, a26, a27, a28, a29, b30, a31, a32, a33, a34, a35, b36, a37)) :
    ∀ (d i : Nat) (b6 b16 b30 b36 : Nat → Int32), i + d = m → (∀ j, j < m → sm_G Q st e i b6 b16 a18 a20 a21 a33 b36 j) → wX_retireStage_2 post (d + 1) (nI i) (nI m) (nI w) (nI wd) (nI fr) 0 0 a1 a2 a3 a4 a5 b6 a7 a8 a9 a10 a11 a12 a13 a14 a15 b16 a17 a18 a19 a20 a21 a22 a23 a24 a25 a26 a27 a28 a29 b30 a31 a32 a33 a34 a35 b36 a37 := by
  intro d
  induction d with
  | zero =>
    intro i b6 b16 b30 b36 hi hG
    obtain rfl : i = m := by omega
    exact pk_le i i (fun _ => H b6 b16 b30 b36 hG) (fun z => absurd z (by omega))
  | succ d ih =>
    intro i b6 b16 b30 b36 hi hG
    have hi' : i < m := by omega
    refine pk_le m i (fun z => absurd z (by omega)) (fun _ => ?_)
    have same : (e ≤ i ∧ Q ≠ 0 ∧ sm_P0 b6 b16 a33 b36 i) ∨ (i < e ∧ sm_P2 st b6 b16 b36 i) → ∀ j, j < m → sm_G Q st e (i + 1) b6 b16 a18 a20 a21 a33 b36 j := by
      intro hs j hj
      by_cases ej : j = i
      · subst ej
        rcases hs with hs | hs
        · exact Or.inl hs
        · exact Or.inr (Or.inl hs)
      · rcases hG j hj with h | h | ⟨h1, h2, h3⟩
        · exact Or.inl h
        · exact Or.inr (Or.inl h)
        · exact Or.inr (Or.inr ⟨h1, by omega, h3⟩)
    rcases hG i hi' with h | h | ⟨h1, h2, h3⟩
    · exact sm_r12b (by omega) hw4 h.2.2.1 (by rw [hq i hi']; exact h.2.1) h.2.2.2.1 (ih (i + 1) b6 b16 b30 b36 (by omega) (same (Or.inl h)))
    · exact sm_r12a (by omega) hw hw4 h.2.1 (ih (i + 1) b6 b16 b30 b36 (by omega) (same (Or.inr h)))
    · refine sm_r12c (by omega) hw hw4 (h15 i hi') (hq i hi') h3 (fun c6 c16 c30 c36 k1 k2 => ih (i + 1) c6 c16 c30 c36 (by omega) ?_)
      intro j hj
      by_cases ej : j = i
      · subst ej
        exact Or.inr (Or.inl ⟨h1, k1⟩)
      · obtain ⟨e6, e16, e36⟩ := k2 j ej
        rcases hG j hj with ⟨g1, g2, g3⟩ | ⟨g1, g2⟩ | ⟨g1, g2, g3⟩
        · refine Or.inl ⟨g1, g2, ?_⟩
          unfold sm_P0 at g3 ⊢
          rw [e6, e16, e36]
          exact g3
        · refine Or.inr (Or.inl ⟨g1, ?_⟩)
          unfold sm_P2 at g2 ⊢
          rw [e6, e16, e36]
          exact g2
        · refine Or.inr (Or.inr ⟨g1, by omega, ?_⟩)
          unfold sm_R sm_P0 sm_P1 at g3 ⊢
          rw [e6, e16, e36]
          exact g3
/-- the retire stage: e threads are stopped behind it, the others fresh -/
theorem sm_ret {post : St2 → Prop} {Q st : Int32} {e : Nat} (hm : m ≤ 4) (hw : 1 ≤ w) (hw4 : w ≤ 4) (h15 : ∀ j, j < m → a15 j = 0) (hq : ∀ j, j < m → a37 j = Q)
    (hG : ∀ j, j < m → sm_G Q st e 0 a6 a16 a18 a20 a21 a33 a36 j)
    (H : ∀ b6 b16 b30 b36 : Nat → Int32, (∀ j, j < m → (e ≤ j ∧ sm_P0 b6 b16 a33 b36 j) ∨ (j < e ∧ sm_P2 st b6 b16 b36 j)) → post ((nI m), (nI w), (nI wd), (nI fr), 0, 0, a1, a2, a3, a4, a5, b6, a7, a8, a9, a10, a11, a12, a13, a14, a15, b16, a17, a18, a19, a20, a21, a22, a23, a24, a25, a26, a27, a28, a29, b30, a31, a32, a33, a34, a35, b36, a37)) :
    wpX_retireStage post ((nI m), (nI w), (nI wd), (nI fr), 0, 0, a1, a2, a3, a4, a5, a6, a7, a8, a9, a10, a11, a12, a13, a14, a15, a16, a17, a18, a19, a20, a21, a22, a23, a24, a25, a26, a27, a28, a29, a30, a31, a32, a33, a34, a35, a36, a37) := by
  refine ⟨m + 1, sm_r2 hm hw hw4 h15 hq (fun b6 b16 b30 b36 g => H b6 b16 b30 b36 (fun j hj => ?_)) m 0 a6 a16 a30 a36 (by omega) hG⟩
  rcases g j hj with h | h | ⟨_, h, _⟩
  · exact Or.inl ⟨h.1, h.2.2⟩
  · exact Or.inr h
  · exact absurd h (by omega)
end
end
section
/-! completion, issue, fetch, anyActive over threads that are fresh or stopped -/
section
variable {m w wd fr : Nat} {a1 a2 a3 a4 a5 a6 a7 a8 a9 a10 a11 a12 a13 a14 a15 a16 a17 a18 a19 a20 a21 a22 a23 a24 a25 a26 a27 a28 a29 a30 a31 a32 a33 a34 a35 a36 a37 : Nat → Int32}
theorem sm_com {post : St2 → Prop} (hm : m ≤ 4) (h16 : ∀ j, j < m → a16 j = 0) (H : post ((nI m), (nI w), (nI wd), (nI fr), 0, 0, a1, a2, a3, a4, a5, a6, a7, a8, a9, a10, a11, a12, a13, a14, a15, a16, a17, a18, a19, a20, a21, a22, a23, a24, a25, a26, a27, a28, a29, a30, a31, a32, a33, a34, a35, a36, a37)) : wpX_completeStage post ((nI m), (nI w), (nI wd), (nI fr), 0, 0, a1, a2, a3, a4, a5, a6, a7, a8, a9, a10, a11, a12, a13, a14, a15, a16, a17, a18, a19, a20, a21, a22, a23, a24, a25, a26, a27, a28, a29, a30, a31, a32, a33, a34, a35, a36, a37) := by
  unfold wpX_completeStage
  dsimp only
  exact pk_loop (σ := Unit) (fun n i _ => wX_completeStage_2 post n (nI i) (nI m) (nI w) (nI wd) (nI fr) 0 0 a1 a2 a3 a4 a5 a6 a7 a8 a9 a10 a11 a12 a13 a14 a15 a16 a17 a18 a19 a20 a21 a22 a23 a24 a25 a26 a27 a28 a29 a30 a31 a32 a33 a34 a35 a36 a37) (fun _ _ => True) m 0 () (by omega) trivial
    (fun n _ _ => pk_le m m (fun _ => H) (fun z => absurd z (by omega)))
    (fun n i _ hi _ hw => pk_le m i (fun z => absurd z (by omega)) (fun _ => ⟨1, ⟨pk_in i 4 (by omega), br_t (by rw [sm_cl (by omega), h16 i hi]; decide) (nm_r (nI_1 i) (hw () trivial))⟩⟩))
theorem sm_iss {post : St2 → Prop} (H : post ((nI m), (nI w), (nI wd), (nI fr), 0, 0, a1, a2, a3, a4, a5, a6, a7, a8, a9, a10, a11, a12, a13, a14, a15, a16, a17, a18, a19, a20, a21, a22, a23, a24, a25, a26, a27, a28, a29, a30, a31, a32, a33, a34, a35, a36, a37)) : wpX_issueStage post ((nI m), (nI w), (nI wd), (nI fr), 0, 0, a1, a2, a3, a4, a5, a6, a7, a8, a9, a10, a11, a12, a13, a14, a15, a16, a17, a18, a19, a20, a21, a22, a23, a24, a25, a26, a27, a28, a29, a30, a31, a32, a33, a34, a35, a36, a37) := by
  unfold wpX_issueStage
  dsimp only
  refine ⟨1, br_t (by decide) ?_⟩
  unfold wX_issueStage_49
  exact sm_purge H
theorem sm_slotk {pr : Int32 → Prop} {t : Nat} {k : Int32} (ht : t < 4) (h15 : a15 t = 0) (hk : k = 0) (H : pr (nI (t * 12))) : wpX_slot pr ((nI m), (nI w), (nI wd), (nI fr), 0, 0, a1, a2, a3, a4, a5, a6, a7, a8, a9, a10, a11, a12, a13, a14, a15, a16, a17, a18, a19, a20, a21, a22, a23, a24, a25, a26, a27, a28, a29, a30, a31, a32, a33, a34, a35, a36, a37) (nI t) k := by
  subst hk
  exact sm_slot ht h15 H
theorem sm_cf1 {pr : Int32 → Prop} {t : Nat} (ht : t < 4) (hd : 1 ≤ wd) (hd2 : wd ≤ 12) (hf : 1 ≤ fr) (hf2 : fr ≤ 24) (h36 : a36 t = 1) (h33 : a33 t = 0) (h16 : a16 t = 0) (H : pr 1) : wpX_canFetch pr ((nI m), (nI w), (nI wd), (nI fr), 0, 0, a1, a2, a3, a4, a5, a6, a7, a8, a9, a10, a11, a12, a13, a14, a15, a16, a17, a18, a19, a20, a21, a22, a23, a24, a25, a26, a27, a28, a29, a30, a31, a32, a33, a34, a35, a36, a37) (nI t) := by
  unfold wpX_canFetch
  dsimp only
  exact ⟨pk_in t 4 ht, br_f (by rw [sm_cl (by omega), h36]; decide) ⟨pk_in t 4 ht, br_t (by rw [sm_cl (by omega)]; exact h33) ⟨pk_in t 4 ht, br_f (by rw [sm_cl (by omega), h16]; exact nI_ge (a := 0) hd (by omega)) (br_f (by decide) (br_f (nI_nle hf (by omega)) H))⟩⟩⟩
theorem sm_cf0 {pr : Int32 → Prop} {t : Nat} (ht : t < 4) (h36 : a36 t = 0) (H : pr 0) : wpX_canFetch pr ((nI m), (nI w), (nI wd), (nI fr), 0, 0, a1, a2, a3, a4, a5, a6, a7, a8, a9, a10, a11, a12, a13, a14, a15, a16, a17, a18, a19, a20, a21, a22, a23, a24, a25, a26, a27, a28, a29, a30, a31, a32, a33, a34, a35, a36, a37) (nI t) := by
  unfold wpX_canFetch
  dsimp only
  exact ⟨pk_in t 4 ht, br_t (by rw [sm_cl (by omega)]; exact h36) H⟩
theorem sm_cf2 {pr : Int32 → Prop} {t : Nat} (ht : t < 4) (h36 : a36 t = 1) (h33 : a33 t = 1) (H : pr 0) : wpX_canFetch pr ((nI m), (nI w), (nI wd), (nI fr), 0, 0, a1, a2, a3, a4, a5, a6, a7, a8, a9, a10, a11, a12, a13, a14, a15, a16, a17, a18, a19, a20, a21, a22, a23, a24, a25, a26, a27, a28, a29, a30, a31, a32, a33, a34, a35, a36, a37) (nI t) := by
  unfold wpX_canFetch
  dsimp only
  exact ⟨pk_in t 4 ht, br_f (by rw [sm_cl (by omega), h36]; decide) ⟨pk_in t 4 ht, br_f (by rw [sm_cl (by omega), h33]; decide) H⟩⟩
theorem sm_block {post : St2 → Prop} {t : Nat} {why : Int32} (ht : t < 4) (H : post ((nI m), (nI w), (nI wd), (nI fr), 0, 0, a1, a2, a3, a4, a5, a6, a7, a8, a9, a10, a11, a12, a13, a14, a15, a16, a17, (upd a18 (t * 12) 2), a19, (upd a20 (t * 12) why), a21, a22, a23, a24, a25, a26, a27, a28, a29, a30, a31, a32, (upd a33 t 1), a34, a35, a36, a37)) : wpX_blockFetch post ((nI m), (nI w), (nI wd), (nI fr), 0, 0, a1, a2, a3, a4, a5, a6, a7, a8, a9, a10, a11, a12, a13, a14, a15, a16, a17, a18, a19, a20, a21, a22, a23, a24, a25, a26, a27, a28, a29, a30, a31, a32, a33, a34, a35, a36, a37) (nI t) (nI (t * 12)) why := by
  unfold wpX_blockFetch
  dsimp only
  exact ⟨pk_in (t * 12) 48 (by omega), nm_r (e' := upd a20 (t * 12) why) (by rw [sm_cl (by omega)]) ⟨pk_in (t * 12) 48 (by omega), nm_r (e' := upd a18 (t * 12) 2) (by rw [sm_cl (by omega)]) ⟨pk_in t 4 ht, nm_r (e' := upd a33 t 1) (by rw [sm_cl (by omega)]) H⟩⟩⟩
theorem sm_f85 {post : St2 → Prop} {t : Nat} (ht : t < 4) (H : ∀ b18 b20 b33 : Nat → Int32, b18 (t * 12) = 2 → b20 (t * 12) = 4 → b33 t = 1 → (∀ j, j ≠ t → b33 j = a33 j) → post ((nI m), (nI w), (nI wd), (nI fr), 0, 0, a1, a2, a3, a4, a5, a6, a7, a8, a9, a10, a11, a12, a13, a14, a15, a16, a17, b18, a19, b20, a21, a22, a23, a24, a25, a26, a27, a28, a29, a30, a31, a32, b33, a34, a35, a36, a37)) :
    wX_fetchOne_85 post (nI t) (nI (t * 12)) (nI m) (nI w) (nI wd) (nI fr) 0 0 a1 a2 a3 a4 a5 a6 a7 a8 a9 a10 a11 a12 a13 a14 a15 a16 a17 a18 a19 a20 a21 a22 a23 a24 a25 a26 a27 a28 a29 a30 a31 a32 a33 a34 a35 a36 a37 := by
  unfold wX_fetchOne_85
  exact sm_block ht (H _ _ _ pk_us pk_us pk_us (fun j hj => pk_un hj))
/-- fetchOne where there is no code: an entry that stops the thread -/
theorem sm_f1 {post : St2 → Prop} {t : Nat} (ht : t < 4) (h15 : a15 t = 0) (h16 : a16 t = 0) (h4 : a4 t = 0)
    (H : ∀ b16 b17 b18 b20 b21 b28 b29 b30 b33 : Nat → Int32, b16 t = 1 → b18 (t * 12) = 2 → b20 (t * 12) = 4 → b21 (t * 12) = -1 → b33 t = 1 → (∀ j, j ≠ t → b16 j = a16 j ∧ b33 j = a33 j) →
      post ((nI m), (nI w), (nI wd), (nI fr), 0, 0, a1, a2, a3, a4, a5, a6, a7, a8, a9, a10, a11, a12, a13, a14, a15, b16, b17, b18, a19, b20, b21, a22, a23, a24, a25, a26, a27, b28, b29, b30, a31, a32, b33, a34, a35, a36, a37)) :
    wpX_fetchOne post ((nI m), (nI w), (nI wd), (nI fr), 0, 0, a1, a2, a3, a4, a5, a6, a7, a8, a9, a10, a11, a12, a13, a14, a15, a16, a17, a18, a19, a20, a21, a22, a23, a24, a25, a26, a27, a28, a29, a30, a31, a32, a33, a34, a35, a36, a37) (nI t) := by
  have K : ∀ b16 b17 b20 b21 b28 b29 b30 : Nat → Int32, b16 t = 1 → b21 (t * 12) = -1 → (∀ j, j ≠ t → b16 j = a16 j) →
      wX_fetchOne_85 post (nI t) (nI (t * 12)) (nI m) (nI w) (nI wd) (nI fr) 0 0 a1 a2 a3 a4 a5 a6 a7 a8 a9 a10 a11 a12 a13 a14 a15 b16 b17 a18 a19 b20 b21 a22 a23 a24 a25 a26 a27 b28 b29 b30 a31 a32 a33 a34 a35 a36 a37 :=
    fun b16 b17 b20 b21 b28 b29 b30 k1 k2 k3 => sm_f85 ht (fun b18 c20 b33 g1 g2 g3 g4 => H b16 b17 b18 c20 b21 b28 b29 b30 b33 k1 g1 g2 k2 g3 (fun j hj => ⟨k3 j hj, g4 j hj⟩))
  unfold wpX_fetchOne
  dsimp only
  refine ⟨pk_in t 4 ht, sm_slotk ht h15 (by rw [sm_cl (by omega)]; exact h16) ?_⟩
  have hs : vp_in (nI (t * 12)) 48 := pk_in (t * 12) 48 (by omega)
  have ht4 : vp_in (nI t) 4 := pk_in t 4 ht
  have e1 : (upd a16 (nI t).toNatClampNeg (a16 (nI t).toNatClampNeg + 1)) t = 1 := by
    rw [sm_cl (by omega), pk_us, h16]
    decide
  have e2 : (upd a21 (nI (t * 12)).toNatClampNeg (-1)) (t * 12) = -1 := by
    rw [sm_cl (by omega), pk_us]
  have e3 : ∀ j, j ≠ t → (upd a16 (nI t).toNatClampNeg (a16 (nI t).toNatClampNeg + 1)) j = a16 j := by
    intro j hj
    rw [sm_cl (by omega), pk_un hj]
  have e4 : a4 (nI t).toNatClampNeg = 0 := by
    rw [sm_cl (by omega)]
    exact h4
  refine ⟨ht4, nm_e ⟨ht4, ht4, nm_e ⟨hs, nm_e ⟨hs, nm_e ⟨hs, nm_e ⟨hs, nm_e ⟨hs, nm_e ⟨hs, nm_e ?_⟩⟩⟩⟩⟩⟩⟩⟩
  exact br_c (fun _ => K _ _ _ _ _ _ _ e1 e2 e3) (fun hz => ⟨ht4, br_f (by rw [e4]; exact hz) (K _ _ _ _ _ _ _ e1 e2 e3)⟩)
theorem sm_f54 {post : St2 → Prop} {t : Nat} (ht : t < 4) (hw : 1 ≤ w) (hw4 : w ≤ 4) (hd : 1 ≤ wd) (hd2 : wd ≤ 12) (hf : 1 ≤ fr) (hf2 : fr ≤ 24)
    (h15 : a15 t = 0) (h4 : a4 t = 0) (h36 : a36 t = 1) (h33 : a33 t = 0) (h16 : a16 t = 0)
    (H : ∀ b16 b17 b18 b20 b21 b28 b29 b30 b33 : Nat → Int32, b16 t = 1 → b18 (t * 12) = 2 → b20 (t * 12) = 4 → b21 (t * 12) = -1 → b33 t = 1 → (∀ j, j ≠ t → b16 j = a16 j ∧ b33 j = a33 j) →
      post ((nI m), (nI w), (nI wd), (nI fr), 0, 0, a1, a2, a3, a4, a5, a6, a7, a8, a9, a10, a11, a12, a13, a14, a15, b16, b17, b18, a19, b20, b21, a22, a23, a24, a25, a26, a27, b28, b29, b30, a31, a32, b33, a34, a35, a36, a37)) :
    ∃ fu, wX_fetchStage_54 post (nI t) fu 0 (nI m) (nI w) (nI wd) (nI fr) 0 0 a1 a2 a3 a4 a5 a6 a7 a8 a9 a10 a11 a12 a13 a14 a15 a16 a17 a18 a19 a20 a21 a22 a23 a24 a25 a26 a27 a28 a29 a30 a31 a32 a33 a34 a35 a36 a37 := by
  refine ⟨2, br_f (nI_ge (a := 0) hw (by omega)) (sm_cf1 ht hd hd2 hf hf2 h36 h33 h16 (br_f (by decide) (sm_f1 ht h15 h16 h4 ?_)))⟩
  intro b16 b17 b18 b20 b21 b28 b29 b30 b33 k1 k2 k3 k4 k5 k6
  have h := H b16 b17 b18 b20 b21 b28 b29 b30 b33 k1 k2 k3 k4 k5 k6
  exact nm_r (e' := 1) (by decide) (br_c (fun _ => h) (fun _ => sm_cf2 ht h36 k5 (br_t rfl h)))
/-- the fetch stage: e threads stopped, the others fresh: thread e fetches -/
theorem sm_fet {post : St2 → Prop} {st : Int32} {e : Nat} (hm : m ≤ 4) (hw : 1 ≤ w) (hw4 : w ≤ 4) (hd : 1 ≤ wd) (hd2 : wd ≤ 12) (hf : 1 ≤ fr) (hf2 : fr ≤ 24)
    (h15 : ∀ j, j < m → a15 j = 0) (h4 : ∀ j, j < m → a4 j = 0)
    (hG : ∀ j, j < m → (e ≤ j ∧ sm_P0 a6 a16 a33 a36 j) ∨ (j < e ∧ sm_P2 st a6 a16 a36 j))
    (H0 : m ≤ e → post ((nI m), (nI w), (nI wd), (nI fr), 0, 0, a1, a2, a3, a4, a5, a6, a7, a8, a9, a10, a11, a12, a13, a14, a15, a16, a17, a18, a19, a20, a21, a22, a23, a24, a25, a26, a27, a28, a29, a30, a31, a32, a33, a34, a35, a36, a37))
    (H : e < m → ∀ b16 b17 b18 b20 b21 b28 b29 b30 b33 : Nat → Int32, b16 e = 1 → b18 (e * 12) = 2 → b20 (e * 12) = 4 → b21 (e * 12) = -1 → b33 e = 1 → (∀ j, j ≠ e → b16 j = a16 j ∧ b33 j = a33 j) →
      post ((nI m), (nI w), (nI wd), (nI fr), 0, 0, a1, a2, a3, a4, a5, a6, a7, a8, a9, a10, a11, a12, a13, a14, a15, b16, b17, b18, a19, b20, b21, a22, a23, a24, a25, a26, a27, b28, b29, b30, a31, a32, b33, a34, a35, a36, a37)) :
    wpX_fetchStage post ((nI m), (nI w), (nI wd), (nI fr), 0, 0, a1, a2, a3, a4, a5, a6, a7, a8, a9, a10, a11, a12, a13, a14, a15, a16, a17, a18, a19, a20, a21, a22, a23, a24, a25, a26, a27, a28, a29, a30, a31, a32, a33, a34, a35, a36, a37) := by
  have hP : ∀ j, j < m → e ≤ j → sm_P0 a6 a16 a33 a36 j := by
    intro j hj he
    rcases hG j hj with h | h
    · exact h.2
    · exact absurd h.1 (by omega)
  unfold wpX_fetchStage
  dsimp only
  refine pk_loop (fun n i s => wX_fetchStage_4 post (nI m) (nI w) (nI wd) (nI fr) 0 0 a1 a2 a3 a4 a5 a6 a7 a8 a9 a10 a11 a12 a13 a14 a15 a16 a17 a18 a19 a20 a21 a22 a23 a24 a25 a26 a27 a28 a29 a30 a31 a32 a33 a34 a35 a36 a37 n s (nI i)) (fun i s => (i ≤ e → s = -1) ∧ (e < i → s = nI e)) m 0 (-1) (by omega) ⟨fun _ => rfl, fun z => absurd z (by omega)⟩ ?_ ?_
  · intro n s hs
    refine pk_le m m (fun _ => ?_) (fun z => absurd z (by omega))
    by_cases he : e < m
    · obtain rfl : s = nI e := hs.2 he
      have p := hP e he (Nat.le_refl e)
      exact br_t (nI_pos' (by omega)) (sm_f54 (by omega) hw hw4 hd hd2 hf hf2 (h15 e he) (h4 e he) p.1 p.2.2.1 p.2.1 (H he))
    · obtain rfl : s = -1 := hs.1 (by omega)
      exact br_f (by decide) (H0 (by omega))
  · intro n i s hi hs hW
    refine pk_le m i (fun z => absurd z (by omega)) (fun _ => ?_)
    by_cases h1 : i < e
    · have p : sm_P2 st a6 a16 a36 i := by
        rcases hG i hi with h | h
        · exact absurd h.1 (by omega)
        · exact h.2
      obtain rfl : s = -1 := hs.1 (by omega)
      exact sm_cf0 (by omega) p.1 (br_t rfl (nm_r (nI_1 i) (hW (-1) ⟨fun _ => rfl, fun z => absurd z (by omega)⟩)))
    · have p := hP i hi (by omega)
      refine sm_cf1 (by omega) hd hd2 hf hf2 p.1 p.2.2.1 p.2.1 (br_f (by decide) ?_)
      by_cases h2 : i = e
      · subst h2
        obtain rfl : s = -1 := hs.1 (by omega)
        exact br_t (by decide) (nm_r (nI_1 i) (hW (nI i) ⟨fun z => absurd z (by omega), fun _ => rfl⟩))
      · obtain rfl : s = nI e := hs.2 (by omega)
        have p' := hP e (by omega) (Nat.le_refl e)
        exact br_f (nI_pos (by omega)) ⟨pk_in i 4 (by omega), pk_in e 4 (by omega), br_t (by rw [sm_cl (by omega), sm_cl (by omega), p.2.1, p'.2.1]; decide) (nm_r (nI_1 i) (hW (nI e) ⟨fun z => absurd z (by omega), fun _ => rfl⟩))⟩
theorem sm_any1 {pr : Int32 → Prop} {j0 : Nat} (hm : m ≤ 4) (hj : j0 < m) (ha : ¬ a36 j0 = 0) (H : pr 1) : wpX_anyActive pr ((nI m), (nI w), (nI wd), (nI fr), 0, 0, a1, a2, a3, a4, a5, a6, a7, a8, a9, a10, a11, a12, a13, a14, a15, a16, a17, a18, a19, a20, a21, a22, a23, a24, a25, a26, a27, a28, a29, a30, a31, a32, a33, a34, a35, a36, a37) := by
  unfold wpX_anyActive
  dsimp only
  refine pk_loop (fun n i s => wX_anyActive_4 pr (nI m) (nI w) (nI wd) (nI fr) 0 0 a1 a2 a3 a4 a5 a6 a7 a8 a9 a10 a11 a12 a13 a14 a15 a16 a17 a18 a19 a20 a21 a22 a23 a24 a25 a26 a27 a28 a29 a30 a31 a32 a33 a34 a35 a36 a37 n s (nI i)) (fun i s => (s = 0 ∨ s = 1) ∧ (j0 < i → s = 1)) m 0 0 (by omega) ⟨Or.inl rfl, fun z => absurd z (by omega)⟩ ?_ ?_
  · intro n s hs
    obtain rfl : s = 1 := hs.2 hj
    exact pk_le m m (fun _ => ⟨by rfl, H⟩) (fun z => absurd z (by omega))
  · intro n i s hi hs hW
    refine pk_le m i (fun z => absurd z (by omega)) (fun _ => ?_)
    have h1 := hW 1 ⟨Or.inr rfl, fun _ => rfl⟩
    rcases hs.1 with rfl | rfl
    · refine br_t rfl ⟨pk_in i 4 (by omega), br_c (fun z => nm_r (nI_1 i) (hW 0 ⟨Or.inl rfl, fun g => ?_⟩)) (fun _ => nm_r (nI_1 i) h1)⟩
      rw [sm_cl (by omega)] at z
      by_cases e : j0 = i
      · subst e
        exact absurd z ha
      · exact hs.2 (by omega)
    · exact br_f (by decide) (nm_r (nI_1 i) h1)
theorem sm_any0 {pr : Int32 → Prop} (hm : m ≤ 4) (ha : ∀ j, j < m → a36 j = 0) (H : pr 0) : wpX_anyActive pr ((nI m), (nI w), (nI wd), (nI fr), 0, 0, a1, a2, a3, a4, a5, a6, a7, a8, a9, a10, a11, a12, a13, a14, a15, a16, a17, a18, a19, a20, a21, a22, a23, a24, a25, a26, a27, a28, a29, a30, a31, a32, a33, a34, a35, a36, a37) := by
  unfold wpX_anyActive
  dsimp only
  exact pk_loop (σ := Unit) (fun n i _ => wX_anyActive_4 pr (nI m) (nI w) (nI wd) (nI fr) 0 0 a1 a2 a3 a4 a5 a6 a7 a8 a9 a10 a11 a12 a13 a14 a15 a16 a17 a18 a19 a20 a21 a22 a23 a24 a25 a26 a27 a28 a29 a30 a31 a32 a33 a34 a35 a36 a37 n 0 (nI i)) (fun _ _ => True) m 0 () (by omega) trivial
    (fun n _ _ => pk_le m m (fun _ => ⟨by rfl, H⟩) (fun z => absurd z (by omega)))
    (fun n i _ hi _ hW => pk_le m i (fun z => absurd z (by omega)) (fun _ => br_t rfl ⟨pk_in i 4 (by omega), br_t (by rw [sm_cl (by omega)]; exact ha i hi) (nm_r (nI_1 i) (hW () trivial))⟩))
end
end
section
/-! the clock: cycles, begin, run -/
section
variable {m w wd fr : Nat} {a1 a2 a3 a4 a5 a6 a7 a8 a9 a10 a11 a12 a13 a14 a15 a16 a17 a18 a19 a20 a21 a22 a23 a24 a25 a26 a27 a28 a29 a30 a31 a32 a33 a34 a35 a36 a37 : Nat → Int32}
theorem sm_c45 {post : Int32 → St2 → Prop} (hm : m ≤ 4) (h15 : ∀ j, j < m → a15 j = 0) (H : ∀ b16 b30 b36 : Nat → Int32, post 0 ((nI m), (nI w), (nI wd), (nI fr), 0, 0, a1, a2, a3, a4, a5, a6, a7, a8, a9, a10, a11, a12, a13, a14, a15, b16, a17, a18, a19, a20, a21, a22, a23, a24, a25, a26, a27, a28, a29, b30, a31, a32, a33, a34, a35, b36, a37)) :
    ∀ (d i : Nat) (b16 b30 b36 : Nat → Int32), i + d = m → (∀ j, j < m → b16 j = 0) → wX_cycles_45 post (d + 1) (nI i) (nI m) (nI w) (nI wd) (nI fr) 0 0 a1 a2 a3 a4 a5 a6 a7 a8 a9 a10 a11 a12 a13 a14 a15 b16 a17 a18 a19 a20 a21 a22 a23 a24 a25 a26 a27 a28 a29 b30 a31 a32 a33 a34 a35 b36 a37 := by
  intro d
  induction d with
  | zero =>
    intro i b16 b30 b36 hi h16
    obtain rfl : i = m := by omega
    exact pk_le i i (fun _ => H b16 b30 b36) (fun z => absurd z (by omega))
  | succ d ih =>
    intro i b16 b30 b36 hi h16
    have hi' : i < m := by omega
    refine pk_le m i (fun z => absurd z (by omega)) (fun _ => sm_stop (by omega) (h15 i hi') (Or.inl (h16 i hi')) ?_)
    intro c16 c30 c36 k1 k2 k3 k4
    refine nm_r (nI_1 i) (ih (i + 1) c16 c30 c36 (by omega) (fun j hj => ?_))
    by_cases e : j = i
    · subst e
      exact k1
    · rw [k2 j e]
      exact h16 j hj
/-- nothing is active: the run ends -/
theorem sm_cfin {post : Int32 → St2 → Prop} {n c : Nat} (hm : m ≤ 4) (hc : c < 16000) (h15 : ∀ j, j < m → a15 j = 0) (h16 : ∀ j, j < m → a16 j = 0) (h36 : ∀ j, j < m → a36 j = 0)
    (H : ∀ b16 b30 b36 : Nat → Int32, post 0 ((nI m), (nI w), (nI wd), (nI fr), 0, 0, a1, a2, a3, a4, a5, a6, a7, a8, a9, a10, a11, a12, a13, a14, a15, b16, a17, a18, a19, a20, a21, a22, a23, a24, a25, a26, a27, a28, a29, b30, a31, a32, a33, a34, a35, b36, a37)) : wX_cycles_7 post (n + 1) (nI c) (nI m) (nI w) (nI wd) (nI fr) 0 0 a1 a2 a3 a4 a5 a6 a7 a8 a9 a10 a11 a12 a13 a14 a15 a16 a17 a18 a19 a20 a21 a22 a23 a24 a25 a26 a27 a28 a29 a30 a31 a32 a33 a34 a35 a36 a37 :=
  br_f (nI_ge (b := 16000) hc (by omega)) (sm_any0 hm h36 (br_t rfl ⟨m + 1, sm_c45 hm h15 H m 0 a16 a30 a36 (by omega) h16⟩))
/-- one cycle: retirement stops threads 0 .. e - 1, then thread e fetches -/
theorem sm_cone {post : Int32 → St2 → Prop} {n c e j0 : Nat} {Q st : Int32} (hm : m ≤ 4) (hw : 1 ≤ w) (hw4 : w ≤ 4) (hd : 1 ≤ wd) (hd2 : wd ≤ 12) (hf : 1 ≤ fr) (hf2 : fr ≤ 24)
    (h15 : ∀ j, j < m → a15 j = 0) (h4 : ∀ j, j < m → a4 j = 0) (hq : ∀ j, j < m → a37 j = Q) (hc : c < 16000) (hj0 : j0 < m) (ha : ¬ a36 j0 = 0)
    (hG : ∀ j, j < m → sm_G Q st e 0 a6 a16 a18 a20 a21 a33 a36 j)
    (H : ∀ b6 b16 b17 b18 b20 b21 b28 b29 b30 b33 b36 : Nat → Int32,
      (∀ j, j < m → (e < j ∧ sm_P0 b6 b16 b33 b36 j) ∨ (j = e ∧ sm_P1 b16 b18 b20 b21 b36 j) ∨ (j < e ∧ sm_P2 st b6 b16 b36 j)) →
      wX_cycles_7 post n (nI (c + 1)) (nI m) (nI w) (nI wd) (nI fr) 0 0 a1 a2 a3 a4 a5 b6 a7 a8 a9 a10 a11 a12 a13 a14 a15 b16 b17 b18 a19 b20 b21 a22 a23 a24 a25 a26 a27 b28 b29 b30 a31 a32 b33 a34 a35 b36 a37) :
    wX_cycles_7 post (n + 1) (nI c) (nI m) (nI w) (nI wd) (nI fr) 0 0 a1 a2 a3 a4 a5 a6 a7 a8 a9 a10 a11 a12 a13 a14 a15 a16 a17 a18 a19 a20 a21 a22 a23 a24 a25 a26 a27 a28 a29 a30 a31 a32 a33 a34 a35 a36 a37 := by
  refine br_f (nI_ge (b := 16000) hc (by omega)) (sm_any1 hm hj0 ha (br_f (by decide) (sm_ret hm hw hw4 h15 hq hG ?_)))
  intro b6 b16 b30 b36 g
  have g16 : ∀ j, j < m → b16 j = 0 := by
    intro j hj
    rcases g j hj with h | h
    · exact h.2.2.1
    · exact h.2.2.1
  refine sm_com hm g16 (sm_iss (sm_fet (st := st) (e := e) hm hw hw4 hd hd2 hf hf2 h15 h4 g (fun he => ?_) (fun he => ?_)))
  · refine nm_r (nI_1 c) (H b6 b16 a17 a18 a20 a21 a28 a29 b30 a33 b36 (fun j hj => ?_))
    rcases g j hj with h | h
    · exact absurd h.1 (by omega)
    · exact Or.inr (Or.inr h)
  · intro c16 c17 c18 c20 c21 c28 c29 c30 c33 k1 k2 k3 k4 k5 k6
    refine nm_r (nI_1 c) (H b6 c16 c17 c18 c20 c21 c28 c29 c30 c33 b36 (fun j hj => ?_))
    by_cases ej : j = e
    · subst ej
      rcases g j hj with h | h
      · exact Or.inr (Or.inl ⟨rfl, h.2.1, k1, k2, k3, k4⟩)
      · exact absurd h.1 (by omega)
    · obtain ⟨e16, e33⟩ := k6 j ej
      rcases g j hj with h | h
      · refine Or.inl ⟨by omega, ?_⟩
        have h2 := h.2
        unfold sm_P0 at h2 ⊢
        rw [e16, e33]
        exact h2
      · refine Or.inr (Or.inr ⟨h.1, ?_⟩)
        have h2 := h.2
        unfold sm_P2 at h2 ⊢
        rw [e16]
        exact h2
/-- with quota: cycle c stops thread c - 1 and lets thread c fetch -/
theorem sm_cnz {post : Int32 → St2 → Prop} {Q : Int32} (hm1 : 1 ≤ m) (hm : m ≤ 4) (hw : 1 ≤ w) (hw4 : w ≤ 4) (hd : 1 ≤ wd) (hd2 : wd ≤ 12) (hf : 1 ≤ fr) (hf2 : fr ≤ 24)
    (h15 : ∀ j, j < m → a15 j = 0) (h4 : ∀ j, j < m → a4 j = 0) (hq : ∀ j, j < m → a37 j = Q) (hQ : Q ≠ 0)
    (H : ∀ b6 b16 b17 b18 b20 b21 b28 b29 b30 b33 b36 : Nat → Int32, (∀ j, j < m → b6 j = 4) →
      post 0 ((nI m), (nI w), (nI wd), (nI fr), 0, 0, a1, a2, a3, a4, a5, b6, a7, a8, a9, a10, a11, a12, a13, a14, a15, b16, b17, b18, a19, b20, b21, a22, a23, a24, a25, a26, a27, b28, b29, b30, a31, a32, b33, a34, a35, b36, a37)) :
    ∀ (d c : Nat) (b6 b16 b17 b18 b20 b21 b28 b29 b30 b33 b36 : Nat → Int32), c + d = m + 1 →
      (∀ j, j < m → (c ≤ j ∧ sm_P0 b6 b16 b33 b36 j) ∨ (j + 1 = c ∧ sm_P1 b16 b18 b20 b21 b36 j) ∨ (j + 1 < c ∧ sm_P2 4 b6 b16 b36 j)) →
      wX_cycles_7 post (d + 1) (nI c) (nI m) (nI w) (nI wd) (nI fr) 0 0 a1 a2 a3 a4 a5 b6 a7 a8 a9 a10 a11 a12 a13 a14 a15 b16 b17 b18 a19 b20 b21 a22 a23 a24 a25 a26 a27 b28 b29 b30 a31 a32 b33 a34 a35 b36 a37 := by
  intro d
  induction d with
  | zero =>
    intro c b6 b16 b17 b18 b20 b21 b28 b29 b30 b33 b36 hc g
    have g2 : ∀ j, j < m → sm_P2 4 b6 b16 b36 j := by
      intro j hj
      rcases g j hj with h | h | h
      · exact absurd h.1 (by omega)
      · exact absurd h.1 (by omega)
      · exact h.2
    exact sm_cfin hm (by omega) h15 (fun j hj => (g2 j hj).2.1) (fun j hj => (g2 j hj).1) (fun c16 c30 c36 => H b6 c16 b17 b18 b20 b21 b28 b29 c30 b33 c36 (fun j hj => (g2 j hj).2.2))
  | succ d ih =>
    intro c b6 b16 b17 b18 b20 b21 b28 b29 b30 b33 b36 hc g
    have hact : ¬ b36 (c - 1) = 0 := by
      rcases g (c - 1) (by omega) with h | h | h
      · rw [h.2.1]
        decide
      · rw [h.2.1]
        decide
      · exact absurd h.1 (by omega)
    refine sm_cone (e := c) (j0 := c - 1) (Q := Q) (st := 4) hm hw hw4 hd hd2 hf hf2 h15 h4 hq (by omega) (by omega) hact (fun j hj => ?_) (fun c6 c16 c17 c18 c20 c21 c28 c29 c30 c33 c36 k => ih (c + 1) c6 c16 c17 c18 c20 c21 c28 c29 c30 c33 c36 (by omega) (fun j hj => ?_))
    · rcases g j hj with h | h | h
      · exact Or.inl ⟨h.1, hQ, h.2⟩
      · exact Or.inr (Or.inr ⟨by omega, by omega, Or.inl ⟨hQ, rfl, h.2⟩⟩)
      · exact Or.inr (Or.inl ⟨by omega, h.2⟩)
    · rcases k j hj with h | h | h
      · exact Or.inl ⟨by omega, h.2⟩
      · exact Or.inr (Or.inl ⟨by omega, h.2⟩)
      · exact Or.inr (Or.inr ⟨by omega, h.2⟩)
/-- cycles() over fresh threads: every thread ends with status st -/
theorem sm_cyc {post : Int32 → St2 → Prop} {Q st : Int32} (hm1 : 1 ≤ m) (hm : m ≤ 4) (hw : 1 ≤ w) (hw4 : w ≤ 4) (hd : 1 ≤ wd) (hd2 : wd ≤ 12) (hf : 1 ≤ fr) (hf2 : fr ≤ 24)
    (h15 : ∀ j, j < m → a15 j = 0) (h4 : ∀ j, j < m → a4 j = 0) (hq : ∀ j, j < m → a37 j = Q) (hs0 : Q = 0 → st = 0) (hs4 : Q ≠ 0 → st = 4)
    (hP : ∀ j, j < m → sm_P0 a6 a16 a33 a36 j)
    (H : ∀ b6 b16 b17 b18 b20 b21 b28 b29 b30 b33 b36 : Nat → Int32, (∀ j, j < m → b6 j = st) →
      post 0 ((nI m), (nI w), (nI wd), (nI fr), 0, 0, a1, a2, a3, a4, a5, b6, a7, a8, a9, a10, a11, a12, a13, a14, a15, b16, b17, b18, a19, b20, b21, a22, a23, a24, a25, a26, a27, b28, b29, b30, a31, a32, b33, a34, a35, b36, a37)) :
    wpX_cycles post ((nI m), (nI w), (nI wd), (nI fr), 0, 0, a1, a2, a3, a4, a5, a6, a7, a8, a9, a10, a11, a12, a13, a14, a15, a16, a17, a18, a19, a20, a21, a22, a23, a24, a25, a26, a27, a28, a29, a30, a31, a32, a33, a34, a35, a36, a37) := by
  by_cases hQ : Q = 0
  · have hst := hs0 hQ
    have hact : ¬ a36 0 = 0 := by
      rw [(hP 0 hm1).1]
      decide
    refine ⟨2, sm_cone (c := 0) (e := m) (j0 := 0) (Q := Q) (st := st) hm hw hw4 hd hd2 hf hf2 h15 h4 hq (by omega) hm1 hact (fun j hj => Or.inr (Or.inr ⟨hj, Nat.zero_le j, Or.inr ⟨hQ, hst, hP j hj⟩⟩)) ?_⟩
    intro b6 b16 b17 b18 b20 b21 b28 b29 b30 b33 b36 k
    have g2 : ∀ j, j < m → sm_P2 st b6 b16 b36 j := by
      intro j hj
      rcases k j hj with h | h | h
      · exact absurd h.1 (by omega)
      · exact absurd h.1 (by omega)
      · exact h.2
    exact sm_cfin hm (by omega) h15 (fun j hj => (g2 j hj).2.1) (fun j hj => (g2 j hj).1) (fun c16 c30 c36 => H b6 c16 b17 b18 b20 b21 b28 b29 c30 b33 c36 (fun j hj => (g2 j hj).2.2))
  · have hst := hs4 hQ
    subst hst
    exact ⟨m + 1 + 1, sm_cnz hm1 hm hw hw4 hd hd2 hf hf2 h15 h4 hq hQ H (m + 1) 0 a6 a16 a17 a18 a20 a21 a28 a29 a30 a33 a36 (by omega) (fun j hj => Or.inl ⟨Nat.zero_le j, hP j hj⟩)⟩
theorem sm_beg {post : St2 → Prop} {t : Nat} {n Q : Int32} (ht : t < 4) (hQ : ∀ pr : Int32 → Prop, pr Q → wpX_clamp pr () n 0 40) (h6 : a6 t = 0)
    (H : post ((nI m), (nI w), (nI wd), (nI fr), 0, 0, a1, a2, a3, a4, a5, a6, a7, a8, a9, a10, a11, a12, a13, a14, a15, a16, a17, a18, a19, a20, a21, a22, a23, a24, a25, a26, a27, a28, a29, a30, a31, (upd a32 t (a7 t)), (upd a33 t 0), a34, a35, (upd a36 t 1), (upd a37 t Q))) : wpX_begin post ((nI m), (nI w), (nI wd), (nI fr), 0, 0, a1, a2, a3, a4, a5, a6, a7, a8, a9, a10, a11, a12, a13, a14, a15, a16, a17, a18, a19, a20, a21, a22, a23, a24, a25, a26, a27, a28, a29, a30, a31, a32, a33, a34, a35, a36, a37) (nI t) n := by
  unfold wpX_begin
  dsimp only
  refine hQ _ ⟨pk_in t 4 ht, nm_r (e' := upd a37 t Q) (by rw [sm_cl (by omega)]) ⟨pk_in t 4 ht, br_t (by rw [sm_cl (by omega)]; exact h6) ?_⟩⟩
  unfold wX_begin_32
  exact ⟨pk_in t 4 ht, nm_r (e' := upd a36 t 1) (by rw [sm_cl (by omega)]; rfl) ⟨pk_in t 4 ht, pk_in t 4 ht, nm_r (e' := upd a32 t (a7 t)) (by rw [sm_cl (by omega)]) ⟨pk_in t 4 ht, nm_r (e' := upd a33 t 0) (by rw [sm_cl (by omega)]) H⟩⟩⟩
theorem sm_run2 {post : Int32 → St2 → Prop} {n Q st : Int32} (hm1 : 1 ≤ m) (hm : m ≤ 4) (hw : 1 ≤ w) (hw4 : w ≤ 4) (hd : 1 ≤ wd) (hd2 : wd ≤ 12) (hf : 1 ≤ fr) (hf2 : fr ≤ 24)
    (hQ : ∀ pr : Int32 → Prop, pr Q → wpX_clamp pr () n 0 40) (hs0 : Q = 0 → st = 0) (hs4 : Q ≠ 0 → st = 4)
    (h15 : ∀ j, j < m → a15 j = 0) (h4 : ∀ j, j < m → a4 j = 0) (h6 : ∀ j, j < m → a6 j = 0) (h16 : ∀ j, j < m → a16 j = 0)
    (H : ∀ b6 b16 b17 b18 b20 b21 b28 b29 b30 b32 b33 b36 b37 : Nat → Int32, (∀ j, j < m → b6 j = st) →
      post 0 ((nI m), (nI w), (nI wd), (nI fr), 0, 0, a1, a2, a3, a4, a5, b6, a7, a8, a9, a10, a11, a12, a13, a14, a15, b16, b17, b18, a19, b20, b21, a22, a23, a24, a25, a26, a27, b28, b29, b30, a31, b32, b33, a34, a35, b36, b37)) :
    ∀ (d i : Nat) (b32 b33 b36 b37 : Nat → Int32), i + d = m → (∀ j, j < i → b33 j = 0 ∧ b36 j = 1 ∧ b37 j = Q) → wX_run_2 post n (d + 1) (nI i) (nI m) (nI w) (nI wd) (nI fr) 0 0 a1 a2 a3 a4 a5 a6 a7 a8 a9 a10 a11 a12 a13 a14 a15 a16 a17 a18 a19 a20 a21 a22 a23 a24 a25 a26 a27 a28 a29 a30 a31 b32 b33 a34 a35 b36 b37 := by
  intro d
  induction d with
  | zero =>
    intro i b32 b33 b36 b37 hi g
    obtain rfl : i = m := by omega
    exact pk_le i i (fun _ => sm_cyc hm1 hm hw hw4 hd hd2 hf hf2 h15 h4 (fun j hj => (g j hj).2.2) hs0 hs4 (fun j hj => ⟨(g j hj).2.1, h16 j hj, (g j hj).1, h6 j hj⟩)
      (fun c6 c16 c17 c18 c20 c21 c28 c29 c30 c33 c36 k => H c6 c16 c17 c18 c20 c21 c28 c29 c30 b32 c33 c36 b37 k)) (fun z => absurd z (by omega))
  | succ d ih =>
    intro i b32 b33 b36 b37 hi g
    have hi' : i < m := by omega
    refine pk_le m i (fun z => absurd z (by omega)) (fun _ => sm_beg (by omega) hQ (h6 i hi') (nm_r (nI_1 i) (ih (i + 1) _ _ _ _ (by omega) (fun j hj => ?_))))
    by_cases e : j = i
    · subst e
      exact ⟨pk_us, pk_us, pk_us⟩
    · rw [pk_un e, pk_un e, pk_un e]
      exact g j (by omega)
/-- run(n) of a core without code: nothing retires, every thread ends with status st -/
theorem sm_run {post : Int32 → St2 → Prop} {n Q st : Int32} (hm1 : 1 ≤ m) (hm : m ≤ 4) (hw : 1 ≤ w) (hw4 : w ≤ 4) (hd : 1 ≤ wd) (hd2 : wd ≤ 12) (hf : 1 ≤ fr) (hf2 : fr ≤ 24)
    (hQ : ∀ pr : Int32 → Prop, pr Q → wpX_clamp pr () n 0 40) (hs0 : Q = 0 → st = 0) (hs4 : Q ≠ 0 → st = 4)
    (h15 : ∀ j, j < m → a15 j = 0) (h4 : ∀ j, j < m → a4 j = 0) (h6 : ∀ j, j < m → a6 j = 0) (h16 : ∀ j, j < m → a16 j = 0)
    (H : ∀ b6 b16 b17 b18 b20 b21 b28 b29 b30 b32 b33 b36 b37 : Nat → Int32, (∀ j, j < m → b6 j = st) →
      post 0 ((nI m), (nI w), (nI wd), (nI fr), 0, 0, a1, a2, a3, a4, a5, b6, a7, a8, a9, a10, a11, a12, a13, a14, a15, b16, b17, b18, a19, b20, b21, a22, a23, a24, a25, a26, a27, b28, b29, b30, a31, b32, b33, a34, a35, b36, b37)) :
    wpX_run post ((nI m), (nI w), (nI wd), (nI fr), 0, 0, a1, a2, a3, a4, a5, a6, a7, a8, a9, a10, a11, a12, a13, a14, a15, a16, a17, a18, a19, a20, a21, a22, a23, a24, a25, a26, a27, a28, a29, a30, a31, a32, a33, a34, a35, a36, a37) n :=
  ⟨m + 1, sm_run2 hm1 hm hw hw4 hd hd2 hf hf2 hQ hs0 hs4 h15 h4 h6 h16 H m 0 a32 a33 a36 a37 (by omega) (fun j hj => absurd hj (by omega))⟩
end
end
section
/-! the constructor: archMap is the identity, what else it fills doesn't matter -/
section
variable {m w wd fr mc ms kc ks : Nat} {a1 a2 a3 a4 a5 a6 a7 a8 a9 a10 a11 a12 a13 a14 a15 a16 a17 a18 a19 a20 a21 a22 a23 a24 a25 a26 a27 a28 a29 a30 a31 a32 a33 a34 a35 a36 a37 : Nat → Int32}
theorem sm_i433 {post : St2 → Prop} (H : ∀ b34 : Nat → Int32, post ((nI m), (nI w), (nI wd), (nI fr), 0, 0, a1, a2, a3, a4, a5, a6, a7, a8, a9, a10, a11, a12, a13, a14, a15, a16, a17, a18, a19, a20, a21, a22, a23, a24, a25, a26, a27, a28, a29, a30, a31, a32, a33, b34, a35, a36, a37)) : ∃ fu, wX_init_433 post mc ms kc ks (nI m) (nI w) (nI wd) (nI fr) 0 0 fu 0 a1 a2 a3 a4 a5 a6 a7 a8 a9 a10 a11 a12 a13 a14 a15 a16 a17 a18 a19 a20 a21 a22 a23 a24 a25 a26 a27 a28 a29 a30 a31 a32 a33 a34 a35 a36 a37 :=
  pk_loop (fun n i s => wX_init_433 post mc ms kc ks (nI m) (nI w) (nI wd) (nI fr) 0 0 n (nI i) a1 a2 a3 a4 a5 a6 a7 a8 a9 a10 a11 a12 a13 a14 a15 a16 a17 a18 a19 a20 a21 a22 a23 a24 a25 a26 a27 a28 a29 a30 a31 a32 a33 s a35 a36 a37) (fun _ _ => True) 96 0 a34 (by omega) trivial
    (fun n s _ => pk_le 96 96 (fun _ => H s) (fun z => absurd z (by omega)))
    (fun n i s hi _ hw => pk_le 96 i (fun z => absurd z (by omega)) (fun _ => ⟨pk_in i 96 hi, nm_e (nm_r (nI_1 i) (hw _ trivial))⟩))
theorem sm_i399 {post : St2 → Prop} {x5 : Int32} (hf2 : fr ≤ 24) (H : ∀ b12 b34 : Nat → Int32, post ((nI m), (nI w), (nI wd), (nI fr), 0, 0, a1, a2, a3, a4, a5, a6, a7, a8, a9, a10, a11, b12, a13, a14, a15, a16, a17, a18, a19, a20, a21, a22, a23, a24, a25, a26, a27, a28, a29, a30, a31, a32, a33, b34, a35, a36, a37)) : ∃ fu, wX_init_399 post mc ms x5 (nI fr) kc ks (nI m) (nI w) (nI wd) 0 0 0 fu 0 a1 a2 a3 a4 a5 a6 a7 a8 a9 a10 a11 a12 a13 a14 a15 a16 a17 a18 a19 a20 a21 a22 a23 a24 a25 a26 a27 a28 a29 a30 a31 a32 a33 a34 a35 a36 a37 :=
  pk_loop (fun n i s => wX_init_399 post mc ms x5 (nI fr) kc ks (nI m) (nI w) (nI wd) 0 0 0 n (nI i) a1 a2 a3 a4 a5 a6 a7 a8 a9 a10 a11 s a13 a14 a15 a16 a17 a18 a19 a20 a21 a22 a23 a24 a25 a26 a27 a28 a29 a30 a31 a32 a33 a34 a35 a36 a37) (fun _ _ => True) fr 0 a12 (by omega) trivial
    (fun n s _ => pk_le fr fr (fun _ => sm_i433 (fun b34 => H s b34)) (fun z => absurd z (by omega)))
    (fun n i s hi _ hw => pk_le fr i (fun z => absurd z (by omega)) (fun _ => ⟨pk_in i 56 (by omega), nm_e (nm_r (nI_1 i) (hw _ trivial))⟩))
theorem sm_i366 {post : St2 → Prop} {x3 x5 : Int32} (hf2 : fr ≤ 24) (hF : ∀ pr : Int32 → Prop, pr (nI fr) → wpX_clamp pr () x3 2 24) (H : ∀ b11 b12 b34 : Nat → Int32, post ((nI m), (nI w), (nI wd), (nI fr), 0, 0, a1, a2, a3, a4, a5, a6, a7, a8, a9, a10, b11, b12, a13, a14, a15, a16, a17, a18, a19, a20, a21, a22, a23, a24, a25, a26, a27, a28, a29, a30, a31, a32, a33, b34, a35, a36, a37)) :
    ∃ fu, wX_init_366 post mc ms x3 x5 kc ks (nI m) (nI w) (nI wd) 0 0 0 fu 0 a1 a2 a3 a4 a5 a6 a7 a8 a9 a10 a11 a12 a13 a14 a15 a16 a17 a18 a19 a20 a21 a22 a23 a24 a25 a26 a27 a28 a29 a30 a31 a32 a33 a34 a35 a36 a37 :=
  pk_loop (fun n i s => wX_init_366 post mc ms x3 x5 kc ks (nI m) (nI w) (nI wd) 0 0 0 n (nI i) a1 a2 a3 a4 a5 a6 a7 a8 a9 a10 s a12 a13 a14 a15 a16 a17 a18 a19 a20 a21 a22 a23 a24 a25 a26 a27 a28 a29 a30 a31 a32 a33 a34 a35 a36 a37) (fun _ _ => True) 56 0 a11 (by omega) trivial
    (fun n s _ => pk_le 56 56 (fun _ => hF _ (sm_i399 hf2 (fun b12 b34 => H s b12 b34))) (fun z => absurd z (by omega)))
    (fun n i s hi _ hw => pk_le 56 i (fun z => absurd z (by omega)) (fun _ => ⟨pk_in i 56 (by omega), nm_e (nm_r (nI_1 i) (hw _ trivial))⟩))
theorem sm_i332 {post : St2 → Prop} {x3 x5 : Int32} (hf2 : fr ≤ 24) (hF : ∀ pr : Int32 → Prop, pr (nI fr) → wpX_clamp pr () x3 2 24)
    (H : ∀ b11 b12 b13 b14 b34 : Nat → Int32, (∀ j, j < 32 → b13 j = nI j) → post ((nI m), (nI w), (nI wd), (nI fr), 0, 0, a1, a2, a3, a4, a5, a6, a7, a8, a9, a10, b11, b12, b13, b14, a15, a16, a17, a18, a19, a20, a21, a22, a23, a24, a25, a26, a27, a28, a29, a30, a31, a32, a33, b34, a35, a36, a37)) :
    ∃ fu, wX_init_332 post mc ms x3 x5 kc ks (nI m) (nI w) (nI wd) 0 0 0 fu 0 a1 a2 a3 a4 a5 a6 a7 a8 a9 a10 a11 a12 a13 a14 a15 a16 a17 a18 a19 a20 a21 a22 a23 a24 a25 a26 a27 a28 a29 a30 a31 a32 a33 a34 a35 a36 a37 :=
  pk_loop (σ := (Nat → Int32) × (Nat → Int32)) (fun n i s => wX_init_332 post mc ms x3 x5 kc ks (nI m) (nI w) (nI wd) 0 0 0 n (nI i) a1 a2 a3 a4 a5 a6 a7 a8 a9 a10 a11 a12 s.1 s.2 a15 a16 a17 a18 a19 a20 a21 a22 a23 a24 a25 a26 a27 a28 a29 a30 a31 a32 a33 a34 a35 a36 a37) (fun i s => ∀ j, j < i → s.1 j = nI j) 32 0 (a13, a14) (by omega) (fun j hj => absurd hj (by omega))
    (fun n s hs => pk_le 32 32 (fun _ => sm_i366 hf2 hF (fun b11 b12 b34 => H b11 b12 s.1 s.2 b34 hs)) (fun z => absurd z (by omega)))
    (fun n i s hi hs hw => pk_le 32 i (fun z => absurd z (by omega)) (fun _ => ⟨pk_in i 32 (by omega), nm_e ⟨pk_in i 32 (by omega), nm_e (nm_r (nI_1 i) (hw (upd s.1 (nI i).toNatClampNeg (nI i), upd s.2 (nI i).toNatClampNeg (nI i)) (fun j hj => by
      show upd s.1 (nI i).toNatClampNeg (nI i) j = nI j
      rw [sm_cl (by omega)]
      by_cases e : j = i
      · rw [e, pk_us]
      · rw [pk_un e]
        exact hs j (by omega))))⟩⟩))
theorem sm_init {post : St2 → Prop} {p0 p1 p2 p3 : Int32} (hc : 37 ≤ mc) (hs : 1416 ≤ ms) (hf2 : fr ≤ 24)
    (hM : ∀ pr : Int32 → Prop, pr (nI m) → wpX_clamp pr () p0 1 4) (hW : ∀ pr : Int32 → Prop, pr (nI w) → wpX_clamp pr () p1 1 4)
    (hF : ∀ pr : Int32 → Prop, pr (nI fr) → wpX_clamp pr () p2 2 24) (hD : ∀ pr : Int32 → Prop, pr (nI wd) → wpX_clamp pr () p3 2 12)
    (H : ∀ b11 b12 b13 b14 b34 : Nat → Int32, (∀ j, j < 32 → b13 j = nI j) → post ((nI m), (nI w), (nI wd), (nI fr), 0, 0, (fun _ => 0), (fun _ => 0), (fun _ => 0), (fun _ => 0), (fun _ => 0), (fun _ => 0), (fun _ => 0), (fun _ => 0), (fun _ => 0), (fun _ => 0), b11, b12, b13, b14, (fun _ => 0), (fun _ => 0), (fun _ => 0), (fun _ => 0), (fun _ => 0), (fun _ => 0), (fun _ => 0), (fun _ => 0), (fun _ => 0), (fun _ => 0), (fun _ => 0), (fun _ => 0), (fun _ => 0), (fun _ => 0), (fun _ => 0), (fun _ => 0), (fun _ => 0), (fun _ => 0), (fun _ => 0), b34, (fun _ => 0), (fun _ => 0), (fun _ => 0))) :
    wpX_init post mc ms (0, 0, 0, 0, 0, 0) p0 p1 p2 p3 := by
  have e : wpX_clamp (fun r_149 => (wpX_clamp (fun r_150 => (wpX_clamp (fun r_151 => (∀ x5_152 : Int32, x5_152 = r_149 * 8 → (∃ fu332 : Nat, wX_init_332 post mc ms p2 x5_152 37 1416 r_149 r_150 r_151 0 0 0 fu332 0 (fun _ => 0) (fun _ => 0) (fun _ => 0) (fun _ => 0) (fun _ => 0) (fun _ => 0) (fun _ => 0) (fun _ => 0) (fun _ => 0) (fun _ => 0) (fun _ => 0) (fun _ => 0) (fun _ => 0) (fun _ => 0) (fun _ => 0) (fun _ => 0) (fun _ => 0) (fun _ => 0) (fun _ => 0) (fun _ => 0) (fun _ => 0) (fun _ => 0) (fun _ => 0) (fun _ => 0) (fun _ => 0) (fun _ => 0) (fun _ => 0) (fun _ => 0) (fun _ => 0) (fun _ => 0) (fun _ => 0) (fun _ => 0) (fun _ => 0) (fun _ => 0) (fun _ => 0) (fun _ => 0) (fun _ => 0)))) () p3 2 12)) () p1 1 4)) () p0 1 4 :=
    hM _ (hW _ (hD _ (nm_e (sm_i332 hf2 hF H))))
  unfold wpX_init
  dsimp only
  refine ⟨by omega, by omega, by omega, by omega, by omega, by omega, by omega, by omega, by omega, by omega, by omega, by omega, by omega, by omega, by omega, by omega, by omega, by omega, by omega, by omega, by omega, by omega, by omega, by omega, by omega, by omega, by omega, by omega, by omega, by omega, by omega, by omega, by omega, by omega, by omega, by omega, by omega, by omega, by omega, by omega, by omega, by omega, by omega, by omega, by omega, by omega, by omega, by omega, by omega, by omega, by omega, by omega, by omega, by omega, by omega, by omega, by omega, by omega, by omega, by omega, by omega, by omega, by omega, by omega, by omega, by omega, by omega, by omega, by omega, by omega, by omega, by omega, by omega, by omega, e⟩
end
end
section
/-! what the outside asks, and the law -/
section
variable {m w wd fr mc ms kc ks : Nat} {a1 a2 a3 a4 a5 a6 a7 a8 a9 a10 a11 a12 a13 a14 a15 a16 a17 a18 a19 a20 a21 a22 a23 a24 a25 a26 a27 a28 a29 a30 a31 a32 a33 a34 a35 a36 a37 : Nat → Int32}
theorem sm_quota (x : Int32) : ∃ k, k ≤ 40 ∧ (x ≤ 0 ↔ k = 0) ∧ ∀ pr : Int32 → Prop, pr (nI k) → wpX_clamp pr () x 0 40 := by
  obtain ⟨k, h0, h1, h2, h3, h4, h5⟩ := sm_clamp x 0 40 (by omega) (by omega)
  refine ⟨k, h1, ?_, h5⟩
  by_cases g1 : nI 0 ≤ x
  · by_cases g2 : x ≤ nI 40
    · have e := h2 g1 g2
      rw [e]
      have := nI_leI (a := k) (b := 0) (by omega) (by omega)
      exact ⟨fun z => by have := this.mp z; omega, fun z => this.mpr (by omega)⟩
    · have e := h3 g1 g2
      exact ⟨fun z => absurd (Int32.le_trans z (show (0 : Int32) ≤ nI 40 by decide)) g2, fun z => absurd z (by omega)⟩
  · have e := h4 g1
    exact ⟨fun _ => e, fun _ => Int32.le_of_lt (Int32.not_le.mp g1)⟩
theorem sm_ix {t k : Nat} : nI t * 8 + nI k = nI (t * 8 + k) := by
  rw [show nI t * 8 = nI (t * 8) from pk_mul t 8, nI_add]
theorem sm_setReg0 {post : Int32 → St2 → Prop} {x p1 p2 : Int32} (h : x < 0 ∨ nI m ≤ x) (H : ∀ r, post r ((nI m), (nI w), (nI wd), (nI fr), 0, 0, a1, a2, a3, a4, a5, a6, a7, a8, a9, a10, a11, a12, a13, a14, a15, a16, a17, a18, a19, a20, a21, a22, a23, a24, a25, a26, a27, a28, a29, a30, a31, a32, a33, a34, a35, a36, a37)) : wpX_setReg post ((nI m), (nI w), (nI wd), (nI fr), 0, 0, a1, a2, a3, a4, a5, a6, a7, a8, a9, a10, a11, a12, a13, a14, a15, a16, a17, a18, a19, a20, a21, a22, a23, a24, a25, a26, a27, a28, a29, a30, a31, a32, a33, a34, a35, a36, a37) x p1 p2 := by
  unfold wpX_setReg
  dsimp only
  exact sm_good0 h (br_t rfl (H _))
theorem sm_setReg1 {post : Int32 → St2 → Prop} {t : Nat} {p1 p2 : Int32} (ht : t < m) (hm : m ≤ 4) (h13 : ∀ j, j < 32 → a13 j = nI j)
    (H : ∀ (r : Int32) (b10 : Nat → Int32), (∀ k, k ≤ 7 → p1 = nI k → b10 (t * 8 + k) = p2) → post r ((nI m), (nI w), (nI wd), (nI fr), 0, 0, a1, a2, a3, a4, a5, a6, a7, a8, a9, b10, a11, a12, a13, a14, a15, a16, a17, a18, a19, a20, a21, a22, a23, a24, a25, a26, a27, a28, a29, a30, a31, a32, a33, a34, a35, a36, a37)) : wpX_setReg post ((nI m), (nI w), (nI wd), (nI fr), 0, 0, a1, a2, a3, a4, a5, a6, a7, a8, a9, a10, a11, a12, a13, a14, a15, a16, a17, a18, a19, a20, a21, a22, a23, a24, a25, a26, a27, a28, a29, a30, a31, a32, a33, a34, a35, a36, a37) (nI t) p1 p2 := by
  unfold wpX_setReg
  dsimp only
  refine sm_good1 ht hm (br_f (by decide) ?_)
  by_cases hk : ∃ k, k ≤ 7 ∧ p1 = nI k
  · obtain ⟨k, hk7, rfl⟩ := hk
    have ea : a13 (nI t * 8 + nI k).toNatClampNeg = nI (t * 8 + k) := by
      rw [sm_ix, sm_cl (by omega)]
      exact h13 _ (by omega)
    refine br_f (nI_pos (by omega)) (br_t (nI_le (b := 7) hk7 (by omega)) ⟨pk_in (t * 8 + k) 32 (by omega) sm_ix, pk_in (t * 8 + k) 56 (by omega) ea, nm_r (e' := upd a10 (t * 8 + k) p2) (by rw [ea, sm_cl (by omega)]) (H 0 _ ?_)⟩)
    intro k' hk' e
    obtain rfl : k = k' := (nI_eq (by omega) (by omega)).mp e
    exact pk_us
  · have g : ∀ r, post r ((nI m), (nI w), (nI wd), (nI fr), 0, 0, a1, a2, a3, a4, a5, a6, a7, a8, a9, a10, a11, a12, a13, a14, a15, a16, a17, a18, a19, a20, a21, a22, a23, a24, a25, a26, a27, a28, a29, a30, a31, a32, a33, a34, a35, a36, a37) := fun r => H r a10 (fun k hk' e => absurd ⟨k, hk', e⟩ hk)
    exact br_c (fun _ => g _) (fun z => br_f (fun z7 => hk (nI_of2 (M := 7) (n := 7) (by decide) z z7)) (g _))
theorem sm_restart0 {post : Int32 → St2 → Prop} {x p1 : Int32} (h : x < 0 ∨ nI m ≤ x) (H : ∀ r, post r ((nI m), (nI w), (nI wd), (nI fr), 0, 0, a1, a2, a3, a4, a5, a6, a7, a8, a9, a10, a11, a12, a13, a14, a15, a16, a17, a18, a19, a20, a21, a22, a23, a24, a25, a26, a27, a28, a29, a30, a31, a32, a33, a34, a35, a36, a37)) : wpX_restart post ((nI m), (nI w), (nI wd), (nI fr), 0, 0, a1, a2, a3, a4, a5, a6, a7, a8, a9, a10, a11, a12, a13, a14, a15, a16, a17, a18, a19, a20, a21, a22, a23, a24, a25, a26, a27, a28, a29, a30, a31, a32, a33, a34, a35, a36, a37) x p1 := by
  unfold wpX_restart
  dsimp only
  exact sm_good0 h (br_t rfl (H _))
theorem sm_restart1 {post : Int32 → St2 → Prop} {t : Nat} {p1 : Int32} (ht : t < m) (hm : m ≤ 4) (H : ∀ r, post r ((nI m), (nI w), (nI wd), (nI fr), 0, 0, a1, a2, a3, a4, a5, (upd a6 t 0), (upd a7 t p1), a8, a9, a10, a11, a12, a13, a14, a15, a16, a17, a18, a19, a20, a21, a22, a23, a24, a25, a26, a27, a28, a29, a30, a31, a32, a33, a34, a35, a36, a37)) : wpX_restart post ((nI m), (nI w), (nI wd), (nI fr), 0, 0, a1, a2, a3, a4, a5, a6, a7, a8, a9, a10, a11, a12, a13, a14, a15, a16, a17, a18, a19, a20, a21, a22, a23, a24, a25, a26, a27, a28, a29, a30, a31, a32, a33, a34, a35, a36, a37) (nI t) p1 := by
  unfold wpX_restart
  dsimp only
  exact sm_good1 ht hm (br_f (by decide) ⟨pk_in t 4 (by omega), nm_r (e' := upd a7 t p1) (by rw [sm_cl (by omega)]) ⟨pk_in t 4 (by omega), nm_r (e' := upd a6 t 0) (by rw [sm_cl (by omega)]) (H _)⟩⟩)
theorem sm_status1 {pr : Int32 → Prop} {t : Nat} (ht : t < m) (hm : m ≤ 4) (H : pr (a6 t)) : wpX_status pr ((nI m), (nI w), (nI wd), (nI fr), 0, 0, a1, a2, a3, a4, a5, a6, a7, a8, a9, a10, a11, a12, a13, a14, a15, a16, a17, a18, a19, a20, a21, a22, a23, a24, a25, a26, a27, a28, a29, a30, a31, a32, a33, a34, a35, a36, a37) (nI t) := by
  unfold wpX_status
  dsimp only
  exact sm_good1 ht hm (br_f (by decide) ⟨pk_in t 4 (by omega), by rw [sm_cl (by omega)]; exact H⟩)
theorem sm_status0 {pr : Int32 → Prop} {x : Int32} (h : x < 0 ∨ nI m ≤ x) (H : pr (-1)) : wpX_status pr ((nI m), (nI w), (nI wd), (nI fr), 0, 0, a1, a2, a3, a4, a5, a6, a7, a8, a9, a10, a11, a12, a13, a14, a15, a16, a17, a18, a19, a20, a21, a22, a23, a24, a25, a26, a27, a28, a29, a30, a31, a32, a33, a34, a35, a36, a37) x := by
  unfold wpX_status
  dsimp only
  exact sm_good0 h (br_t rfl H)
theorem sm_pc1 {pr : Int32 → Prop} {t : Nat} (ht : t < m) (hm : m ≤ 4) (H : pr (a7 t)) : wpX_pc pr ((nI m), (nI w), (nI wd), (nI fr), 0, 0, a1, a2, a3, a4, a5, a6, a7, a8, a9, a10, a11, a12, a13, a14, a15, a16, a17, a18, a19, a20, a21, a22, a23, a24, a25, a26, a27, a28, a29, a30, a31, a32, a33, a34, a35, a36, a37) (nI t) := by
  unfold wpX_pc
  dsimp only
  exact sm_good1 ht hm (br_f (by decide) ⟨pk_in t 4 (by omega), by rw [sm_cl (by omega)]; exact H⟩)
theorem sm_pc0 {pr : Int32 → Prop} {x : Int32} (h : x < 0 ∨ nI m ≤ x) (H : pr 0) : wpX_pc pr ((nI m), (nI w), (nI wd), (nI fr), 0, 0, a1, a2, a3, a4, a5, a6, a7, a8, a9, a10, a11, a12, a13, a14, a15, a16, a17, a18, a19, a20, a21, a22, a23, a24, a25, a26, a27, a28, a29, a30, a31, a32, a33, a34, a35, a36, a37) x := by
  unfold wpX_pc
  dsimp only
  exact sm_good0 h (br_t rfl H)
theorem sm_retired1 {pr : Int32 → Prop} {t : Nat} (ht : t < m) (hm : m ≤ 4) (H : pr (a8 t)) : wpX_retired pr ((nI m), (nI w), (nI wd), (nI fr), 0, 0, a1, a2, a3, a4, a5, a6, a7, a8, a9, a10, a11, a12, a13, a14, a15, a16, a17, a18, a19, a20, a21, a22, a23, a24, a25, a26, a27, a28, a29, a30, a31, a32, a33, a34, a35, a36, a37) (nI t) := by
  unfold wpX_retired
  dsimp only
  exact sm_good1 ht hm (br_f (by decide) ⟨pk_in t 4 (by omega), by rw [sm_cl (by omega)]; exact H⟩)
theorem sm_retired0 {pr : Int32 → Prop} {x : Int32} (h : x < 0 ∨ nI m ≤ x) (H : pr 0) : wpX_retired pr ((nI m), (nI w), (nI wd), (nI fr), 0, 0, a1, a2, a3, a4, a5, a6, a7, a8, a9, a10, a11, a12, a13, a14, a15, a16, a17, a18, a19, a20, a21, a22, a23, a24, a25, a26, a27, a28, a29, a30, a31, a32, a33, a34, a35, a36, a37) x := by
  unfold wpX_retired
  dsimp only
  exact sm_good0 h (br_t rfl H)
theorem sm_digest1 {pr : Int32 → Prop} {t : Nat} (ht : t < m) (hm : m ≤ 4) (H : pr (a9 t)) : wpX_digest pr ((nI m), (nI w), (nI wd), (nI fr), 0, 0, a1, a2, a3, a4, a5, a6, a7, a8, a9, a10, a11, a12, a13, a14, a15, a16, a17, a18, a19, a20, a21, a22, a23, a24, a25, a26, a27, a28, a29, a30, a31, a32, a33, a34, a35, a36, a37) (nI t) := by
  unfold wpX_digest
  dsimp only
  exact sm_good1 ht hm (br_f (by decide) ⟨pk_in t 4 (by omega), by rw [sm_cl (by omega)]; exact H⟩)
theorem sm_digest0 {pr : Int32 → Prop} {x : Int32} (h : x < 0 ∨ nI m ≤ x) (H : pr 0) : wpX_digest pr ((nI m), (nI w), (nI wd), (nI fr), 0, 0, a1, a2, a3, a4, a5, a6, a7, a8, a9, a10, a11, a12, a13, a14, a15, a16, a17, a18, a19, a20, a21, a22, a23, a24, a25, a26, a27, a28, a29, a30, a31, a32, a33, a34, a35, a36, a37) x := by
  unfold wpX_digest
  dsimp only
  exact sm_good0 h (br_t rfl H)
theorem sm_reg1 {pr : Int32 → Prop} {t : Nat} {p1 : Int32} (ht : t < m) (hm : m ≤ 4) (h13 : ∀ j, j < 32 → a13 j = nI j)
    (H : ∀ y : Int32, (∀ k, k ≤ 7 → p1 = nI k → y = a10 (t * 8 + k)) → ((¬ ∃ k, k ≤ 7 ∧ p1 = nI k) → y = 0) → pr y) : wpX_reg pr ((nI m), (nI w), (nI wd), (nI fr), 0, 0, a1, a2, a3, a4, a5, a6, a7, a8, a9, a10, a11, a12, a13, a14, a15, a16, a17, a18, a19, a20, a21, a22, a23, a24, a25, a26, a27, a28, a29, a30, a31, a32, a33, a34, a35, a36, a37) (nI t) p1 := by
  unfold wpX_reg
  dsimp only
  refine sm_good1 ht hm (br_f (by decide) ?_)
  by_cases hk : ∃ k, k ≤ 7 ∧ p1 = nI k
  · obtain ⟨k, hk7, rfl⟩ := hk
    have ea : a13 (nI t * 8 + nI k).toNatClampNeg = nI (t * 8 + k) := by
      rw [sm_ix, sm_cl (by omega)]
      exact h13 _ (by omega)
    refine br_f (nI_pos (by omega)) (br_t (nI_le (b := 7) hk7 (by omega)) ⟨pk_in (t * 8 + k) 32 (by omega) sm_ix, pk_in (t * 8 + k) 56 (by omega) ea, H _ ?_ (fun z => absurd ⟨k, hk7, rfl⟩ z)⟩)
    intro k' hk' e
    obtain rfl : k = k' := (nI_eq (by omega) (by omega)).mp e
    rw [ea, sm_cl (by omega)]
  · have g : pr 0 := H 0 (fun k hk' e => absurd ⟨k, hk', e⟩ hk) (fun _ => rfl)
    exact br_c (fun _ => g) (fun z => br_f (fun z7 => hk (nI_of2 (M := 7) (n := 7) (by decide) z z7)) g)
theorem sm_reg0 {pr : Int32 → Prop} {x p1 : Int32} (h : x < 0 ∨ nI m ≤ x) (H : pr 0) : wpX_reg pr ((nI m), (nI w), (nI wd), (nI fr), 0, 0, a1, a2, a3, a4, a5, a6, a7, a8, a9, a10, a11, a12, a13, a14, a15, a16, a17, a18, a19, a20, a21, a22, a23, a24, a25, a26, a27, a28, a29, a30, a31, a32, a33, a34, a35, a36, a37) x p1 := by
  unfold wpX_reg
  dsimp only
  exact sm_good0 h (br_t rfl H)
theorem sm_l145a {post : Int32 → St0 → Prop} {t : Nat} {x4 x5 z : Int32} (ht : t < m) (hm : m ≤ 4) (h8 : a8 t = 0) (h9 : a9 t = 0) (h13 : ∀ j, j < 32 → a13 j = nI j)
    (h10 : ∀ k, k ≤ 7 → x4 = nI k → a10 (t * 8 + k) = x5) (H : post 1 ()) : wL_lawOf_145 post mc ms (nI t) x4 x5 1 z z kc ks (nI m) (nI w) (nI wd) (nI fr) 0 0 a1 a2 a3 a4 a5 a6 a7 a8 a9 a10 a11 a12 a13 a14 a15 a16 a17 a18 a19 a20 a21 a22 a23 a24 a25 a26 a27 a28 a29 a30 a31 a32 a33 a34 a35 a36 a37 := by
  unfold wL_lawOf_145
  refine br_t rfl (sm_retired1 ht hm (br_t h8 (sm_digest1 ht hm (br_t h9 (sm_reg1 ht hm h13 (fun y hy1 hy2 => br_f (by decide) ?_))))))
  by_cases hk : ∃ k, k ≤ 7 ∧ x4 = nI k
  · obtain ⟨k, hk7, rfl⟩ := hk
    exact br_f (nI_pos (by omega)) (br_f (nI_nlt (a := 7) hk7 (by omega)) (br_t ((hy1 k hk7 rfl).trans (h10 k hk7 rfl)) H))
  · have g : wL_lawOf_200 post mc ms y kc ks := br_t (hy2 hk) H
    exact br_c (fun _ => g) (fun z => br_c (fun _ => g) (fun z7 => absurd (nI_of2 (M := 7) (n := 7) (by decide) z (Int32.not_lt.mp z7)) hk))
theorem sm_l145b {post : Int32 → St0 → Prop} {x1 x4 x5 : Int32} (h : x1 < 0 ∨ nI m ≤ x1) (H : post 1 ()) : wL_lawOf_145 post mc ms x1 x4 x5 0 0 0 kc ks (nI m) (nI w) (nI wd) (nI fr) 0 0 a1 a2 a3 a4 a5 a6 a7 a8 a9 a10 a11 a12 a13 a14 a15 a16 a17 a18 a19 a20 a21 a22 a23 a24 a25 a26 a27 a28 a29 a30 a31 a32 a33 a34 a35 a36 a37 := by
  unfold wL_lawOf_145
  have g : wL_lawOf_200 post mc ms 0 kc ks := br_t rfl H
  exact br_t rfl (sm_retired0 h (br_t rfl (sm_digest0 h (br_t rfl (sm_reg0 h (br_t rfl g))))))
theorem sm_l92a {post : Int32 → St0 → Prop} {t : Nat} {x2 x4 x5 st : Int32} (ht : t < m) (hm : m ≤ 4) (h6 : ∀ j, j < m → a6 j = st) (h7 : a7 t = x2) (h8 : a8 t = 0) (h9 : a9 t = 0) (h13 : ∀ j, j < 32 → a13 j = nI j)
    (h10 : ∀ k, k ≤ 7 → x4 = nI k → a10 (t * 8 + k) = x5) (H : post 1 ()) : wL_lawOf_92 post mc ms (nI t) x2 x4 x5 1 st kc ks (nI m) (nI w) (nI wd) (nI fr) 0 0 a1 a2 a3 a4 a5 a6 a7 a8 a9 a10 a11 a12 a13 a14 a15 a16 a17 a18 a19 a20 a21 a22 a23 a24 a25 a26 a27 a28 a29 a30 a31 a32 a33 a34 a35 a36 a37 := by
  unfold wL_lawOf_92
  refine sm_status1 ht hm (br_f (by decide) ?_)
  unfold wL_lawOf_111
  refine br_t (h6 t ht) (sm_status1 (t := 0) (by omega) hm (br_t (h6 0 (by omega)) (sm_pc1 ht hm (br_f (by decide) ?_))))
  rw [h7]
  exact sm_l145a ht hm h8 h9 h13 h10 H
theorem sm_l92b {post : Int32 → St0 → Prop} {x1 x2 x4 x5 st : Int32} (h : x1 < 0 ∨ nI m ≤ x1) (hm1 : 1 ≤ m) (hm : m ≤ 4) (h6 : ∀ j, j < m → a6 j = st) (H : post 1 ()) : wL_lawOf_92 post mc ms x1 x2 x4 x5 0 st kc ks (nI m) (nI w) (nI wd) (nI fr) 0 0 a1 a2 a3 a4 a5 a6 a7 a8 a9 a10 a11 a12 a13 a14 a15 a16 a17 a18 a19 a20 a21 a22 a23 a24 a25 a26 a27 a28 a29 a30 a31 a32 a33 a34 a35 a36 a37 := by
  unfold wL_lawOf_92
  refine sm_status0 h (br_t rfl ?_)
  unfold wL_lawOf_111
  exact br_t rfl (sm_status1 (t := 0) (by omega) hm (br_t (h6 0 (by omega)) (sm_pc0 h (br_t rfl (sm_l145b h H)))))
theorem sm_l51a {post : Int32 → St0 → Prop} {t : Nat} {x2 x3 x4 x5 : Int32} (ht : t < m) (hm : m ≤ 4) (hw : 1 ≤ w) (hw4 : w ≤ 4) (hd : 1 ≤ wd) (hd2 : wd ≤ 12) (hf : 1 ≤ fr) (hf2 : fr ≤ 24)
    (h15 : ∀ j, j < m → a15 j = 0) (h4 : ∀ j, j < m → a4 j = 0) (h6 : ∀ j, j < m → a6 j = 0) (h16 : ∀ j, j < m → a16 j = 0) (h8 : a8 t = 0) (h9 : a9 t = 0) (h13 : ∀ j, j < 32 → a13 j = nI j)
    (H : post 1 ()) : wL_lawOf_51 post mc ms (nI t) x2 x3 x4 x5 1 kc ks (nI m) (nI w) (nI wd) (nI fr) 0 0 a1 a2 a3 a4 a5 a6 a7 a8 a9 a10 a11 a12 a13 a14 a15 a16 a17 a18 a19 a20 a21 a22 a23 a24 a25 a26 a27 a28 a29 a30 a31 a32 a33 a34 a35 a36 a37 := by
  obtain ⟨k, hk, hz, hQ⟩ := sm_quota x3
  have hk0 : nI k = 0 ↔ k = 0 := nI_eq (b := 0) (by omega) (by omega)
  have h6' : ∀ j, j < m → upd a6 t 0 j = 0 := by
    intro j hj
    by_cases e : j = t
    · rw [e, pk_us]
    · rw [pk_un e]
      exact h6 j hj
  unfold wL_lawOf_51
  refine sm_setReg1 ht hm h13 (fun r b10 k10 => sm_restart1 ht hm (fun r' => ?_))
  by_cases hx : x3 ≤ 0
  · refine sm_run (Q := nI k) (st := 0) (by omega) hm hw hw4 hd hd2 hf hf2 hQ (fun _ => rfl) (fun z => absurd (hk0.mpr (hz.mp hx)) z) h15 h4 h6' h16 ?_
    intro b6 b16 b17 b18 b20 b21 b28 b29 b30 b32 b33 b36 b37 k6
    exact br_t rfl (br_t hx (sm_l92a ht hm k6 pk_us h8 h9 h13 k10 H))
  · refine sm_run (Q := nI k) (st := 4) (by omega) hm hw hw4 hd hd2 hf hf2 hQ (fun z => absurd (hz.mpr (hk0.mp z)) hx) (fun _ => rfl) h15 h4 h6' h16 ?_
    intro b6 b16 b17 b18 b20 b21 b28 b29 b30 b32 b33 b36 b37 k6
    exact br_t rfl (br_f hx (sm_l92a ht hm k6 pk_us h8 h9 h13 k10 H))
theorem sm_l51b {post : Int32 → St0 → Prop} {x1 x2 x3 x4 x5 : Int32} (h : x1 < 0 ∨ nI m ≤ x1) (hm1 : 1 ≤ m) (hm : m ≤ 4) (hw : 1 ≤ w) (hw4 : w ≤ 4) (hd : 1 ≤ wd) (hd2 : wd ≤ 12) (hf : 1 ≤ fr) (hf2 : fr ≤ 24)
    (h15 : ∀ j, j < m → a15 j = 0) (h4 : ∀ j, j < m → a4 j = 0) (h6 : ∀ j, j < m → a6 j = 0) (h16 : ∀ j, j < m → a16 j = 0)
    (H : post 1 ()) : wL_lawOf_51 post mc ms x1 x2 x3 x4 x5 0 kc ks (nI m) (nI w) (nI wd) (nI fr) 0 0 a1 a2 a3 a4 a5 a6 a7 a8 a9 a10 a11 a12 a13 a14 a15 a16 a17 a18 a19 a20 a21 a22 a23 a24 a25 a26 a27 a28 a29 a30 a31 a32 a33 a34 a35 a36 a37 := by
  obtain ⟨k, hk, hz, hQ⟩ := sm_quota x3
  have hk0 : nI k = 0 ↔ k = 0 := nI_eq (b := 0) (by omega) (by omega)
  unfold wL_lawOf_51
  refine sm_setReg0 h (fun r => sm_restart0 h (fun r' => ?_))
  by_cases hx : x3 ≤ 0
  · refine sm_run (Q := nI k) (st := 0) (by omega) hm hw hw4 hd hd2 hf hf2 hQ (fun _ => rfl) (fun z => absurd (hk0.mpr (hz.mp hx)) z) h15 h4 h6 h16 ?_
    intro b6 b16 b17 b18 b20 b21 b28 b29 b30 b32 b33 b36 b37 k6
    exact br_t rfl (br_t hx (sm_l92b h hm1 hm k6 H))
  · refine sm_run (Q := nI k) (st := 4) (by omega) hm hw hw4 hd hd2 hf hf2 hQ (fun z => absurd (hz.mpr (hk0.mp z)) hx) (fun _ => rfl) h15 h4 h6 h16 ?_
    intro b6 b16 b17 b18 b20 b21 b28 b29 b30 b32 b33 b36 b37 k6
    exact br_t rfl (br_f hx (sm_l92b h hm1 hm k6 H))
theorem sm_l34 {post : Int32 → St0 → Prop} {x1 x2 x3 x4 x5 : Int32} (hm1 : 1 ≤ m) (hm : m ≤ 4) (hw : 1 ≤ w) (hw4 : w ≤ 4) (hd : 1 ≤ wd) (hd2 : wd ≤ 12) (hf : 1 ≤ fr) (hf2 : fr ≤ 24)
    (h15 : ∀ j, a15 j = 0) (h4 : ∀ j, a4 j = 0) (h6 : ∀ j, a6 j = 0) (h16 : ∀ j, a16 j = 0) (h8 : ∀ j, a8 j = 0) (h9 : ∀ j, a9 j = 0) (h13 : ∀ j, j < 32 → a13 j = nI j)
    (H : post 1 ()) : wL_lawOf_34 post mc ms x1 x2 x3 x4 x5 (nI m) kc ks (nI m) (nI w) (nI wd) (nI fr) 0 0 a1 a2 a3 a4 a5 a6 a7 a8 a9 a10 a11 a12 a13 a14 a15 a16 a17 a18 a19 a20 a21 a22 a23 a24 a25 a26 a27 a28 a29 a30 a31 a32 a33 a34 a35 a36 a37 := by
  unfold wL_lawOf_34
  have g : x1 < 0 ∨ nI m ≤ x1 → wL_lawOf_50 post mc ms x1 x2 x3 x4 x5 kc ks (nI m) (nI w) (nI wd) (nI fr) 0 0 a1 a2 a3 a4 a5 a6 a7 a8 a9 a10 a11 a12 a13 a14 a15 a16 a17 a18 a19 a20 a21 a22 a23 a24 a25 a26 a27 a28 a29 a30 a31 a32 a33 a34 a35 a36 a37 := by
    intro h
    unfold wL_lawOf_50
    exact sm_l51b h hm1 hm hw hw4 hd hd2 hf hf2 (fun j _ => h15 j) (fun j _ => h4 j) (fun j _ => h6 j) (fun j _ => h16 j) H
  rcases pk_ix x1 (n := m) (by omega) with h | h | ⟨t, ht, rfl⟩
  · exact br_t h (g (Or.inl h))
  · exact br_c (fun _ => g (Or.inr h)) (fun _ => br_t h (g (Or.inr h)))
  · exact br_f (nI_pos (by omega)) (br_f (nI_ge ht (by omega)) (sm_l51a ht hm hw hw4 hd hd2 hf hf2 (fun j _ => h15 j) (fun j _ => h4 j) (fun j _ => h6 j) (fun j _ => h16 j) (h8 t) (h9 t) h13 H))
end
section
theorem sm_law {post : Int32 → St0 → Prop} {p0 p1 p2 p3 p4 p5 : Int32} (H : post 1 ()) : wpL_lawOf post 764 12224 () p0 p1 p2 p3 p4 p5 := by
  obtain ⟨m, hm1, hm, m1, m2, m3, hM⟩ := sm_clamp p0 1 4 (by omega) (by omega)
  obtain ⟨w, hw1, hw4, _, _, _, hW⟩ := sm_clamp p5 1 4 (by omega) (by omega)
  obtain ⟨fr, hf1, hf2, _, _, _, hF⟩ := sm_clamp p4 2 24 (by omega) (by omega)
  obtain ⟨wd, hd1, hd2, _, _, _, hD⟩ := sm_clamp p3 2 12 (by omega) (by omega)
  refine ⟨by omega, by omega, 37, 1416, by omega, by omega, sm_init (m := m) (w := w) (fr := fr) (wd := wd) (by omega) (by omega) hf2 hM hW hF hD (fun b11 b12 b13 b14 b34 k13 => ?_)⟩
  have g : wL_lawOf_34 post 764 12224 p1 p2 p3 p4 p5 (nI m) (1 + 37) (43 + 1416) (nI m) (nI w) (nI wd) (nI fr) 0 0 (fun _ => 0) (fun _ => 0) (fun _ => 0) (fun _ => 0) (fun _ => 0) (fun _ => 0) (fun _ => 0) (fun _ => 0) (fun _ => 0) (fun _ => 0) b11 b12 b13 b14 (fun _ => 0) (fun _ => 0) (fun _ => 0) (fun _ => 0) (fun _ => 0) (fun _ => 0) (fun _ => 0) (fun _ => 0) (fun _ => 0) (fun _ => 0) (fun _ => 0) (fun _ => 0) (fun _ => 0) (fun _ => 0) (fun _ => 0) (fun _ => 0) (fun _ => 0) (fun _ => 0) (fun _ => 0) b34 (fun _ => 0) (fun _ => 0) (fun _ => 0) :=
    sm_l34 hm1 hm hw1 hw4 (by omega) hd2 (by omega) hf2 (fun _ => rfl) (fun _ => rfl) (fun _ => rfl) (fun _ => rfl) (fun _ => rfl) (fun _ => rfl) k13 H
  refine br_c (fun h1 => br_c (fun h2 => ?_) (fun h2 => ?_)) (fun h1 => ?_)
  · rw [m1 h1 h2]
    exact g
  · have e := m2 h1 h2
    subst e
    exact g
  · have e := m3 h1
    subst e
    exact g
theorem sm_cell {pr : Int32 → Prop} {L : Nat} {xs : Nat → Int32} (i : Nat) (hi : i < 6) (hL : L ≤ 6) (H : ∀ x, pr x) : wpL_cellAt pr L xs () (nI i) :=
  pk_le L i (fun _ => H _) (fun z => ⟨pk_in i L z, H _⟩)
end
end
section
theorem i_vc (xs : Nat → Int32) (L : Nat) (hL : L ≤ 6) : wpL_law (fun r => r = 1) L xs := by
  unfold wpL_law
  exact sm_cell 0 (by omega) hL (fun r1 => sm_cell 1 (by omega) hL (fun r2 => sm_cell 2 (by omega) hL (fun r3 => sm_cell 3 (by omega) hL (fun r4 => sm_cell 4 (by omega) hL (fun r5 => sm_cell 5 (by omega) hL (fun r6 => ⟨764, 12224, by omega, by omega, sm_law rfl⟩))))))
end
