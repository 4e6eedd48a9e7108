section
section
variable {w h ru pa ro li : Int32} {a1 a2 a3 a4 a5 a6 a7 a8 a9 a10 a11 a12 a13 a14 a15 a16 a18 a19 a20 a21 : Nat → Int32} {a17 : Nat → Int64}
/-- a symbol without parts -/
def br_leaf (c : Int32) : Prop := ¬ c = 3 ∧ ¬ c = 4 ∧ ¬ c = 5 ∧ ¬ c = 6
theorem br_parts0 {post : Int32 → Prop} {c : Int32} (hc : br_leaf c) (hp : post 0) : wpX_parts post (w, h, ru, pa, ro, li, a1, a2, a3, a4, a5, a6, a7, a8, a9, a10, a11, a12, a13, a14, a15, a16, a17, a18, a19, a20, a21) c :=
  br_f hc.1 (br_f hc.2.1 (br_f hc.2.2.1 (br_f hc.2.2.2 hp)))
theorem br_parts1 {post : Int32 → Prop} {c : Int32} (hc : c = 3 ∨ c = 4) (hp : post 1) : wpX_parts post (w, h, ru, pa, ro, li, a1, a2, a3, a4, a5, a6, a7, a8, a9, a10, a11, a12, a13, a14, a15, a16, a17, a18, a19, a20, a21) c :=
  br_c (fun _ => hp) (fun h3 => br_c (fun _ => hp) (fun h4 => absurd hc (fun z => z.elim h3 h4)))
theorem br_parts2 {post : Int32 → Prop} {c : Int32} (hc : c = 5 ∨ c = 6) (hp : post 2) : wpX_parts post (w, h, ru, pa, ro, li, a1, a2, a3, a4, a5, a6, a7, a8, a9, a10, a11, a12, a13, a14, a15, a16, a17, a18, a19, a20, a21) c := by
  have h3 : ¬ c = 3 := by rcases hc with rfl | rfl <;> decide
  have h4 : ¬ c = 4 := by rcases hc with rfl | rfl <;> decide
  exact br_f h3 (br_f h4 (br_c (fun _ => hp) (fun h5 => br_c (fun _ => hp) (fun h6 => absurd hc (fun z => z.elim h5 h6)))))
/-- the least node that is free -/
theorem br_fresh {post : Int32 → St2 → Prop} {m : Nat} (hm : 1 ≤ m) (hm' : m < 64) (hf : a11 m = 0) (hu : ∀ j, 1 ≤ j → j < m → ¬ a11 j = 0)
    (hp : post (nI m) (w, h, ru, pa, ro, li, a1, a2, a3, a4, a5, a6, a7, a8, a9, a10, upd a11 m 1, a12, a13, a14, a15, a16, a17, a18, a19, a20, a21)) : wpX_freshNode post (w, h, ru, pa, ro, li, a1, a2, a3, a4, a5, a6, a7, a8, a9, a10, a11, a12, a13, a14, a15, a16, a17, a18, a19, a20, a21) := by
  have L := pk_loopD (σ := Int32) (fun n i s => wX_freshNode_5 post w h ru pa ro li a1 a2 a3 a4 a5 a6 a7 a8 a9 a10 a11 a12 a13 a14 a15 a16 a17 a18 a19 a20 a21 n s (nI i)) (fun i s => i < 64 ∧ (i < m → s = nI m)) ?_ ?_ 63 1 ⟨by omega, fun z => absurd z (by omega)⟩
  · exact ⟨64, L⟩
  · intro n s hI
    obtain rfl : s = nI m := hI.2 (by omega)
    exact pk_le 0 0 (fun _ => ⟨vp_in_nI hm' (by omega), nm_r (by rw [nI_clamp (by omega)]) hp⟩) (fun z => absurd z (by omega))
  · intro n i s hI hk
    obtain ⟨h64, hs⟩ := hI
    have ci : (nI (i + 1)).toNatClampNeg = i + 1 := nI_clamp (by omega)
    refine pk_le (i + 1) 0 (fun z => absurd z (by omega)) (fun _ => ⟨pk_in (i + 1) 64 (by omega), ?_⟩)
    refine br_c (fun z => nm_r (pk_m1 i) (hk _ ⟨by omega, fun hlt => ?_⟩)) (fun z => nm_r (pk_m1 i) (hk _ ⟨by omega, fun hlt => ?_⟩))
    · rw [ci] at z
      rcases Nat.lt_or_ge (i + 1) m with g | g
      · exact absurd z (hu _ (by omega) g)
      · rw [show i + 1 = m by omega]
    · rw [ci] at z
      rcases Nat.lt_or_ge (i + 1) m with g | g
      · exact hs g
      · rw [show i + 1 = m by omega] at z
        exact absurd hf z
/-- no pattern but the first: a node is worked out at once -/
theorem br_work {post : St2 → Prop} {k p q : Nat} (hk : k < 64) (hp : p < 64) (hq : q < 64) (e1 : a13 k = nI p) (e2 : a14 k = nI q)
    (H : ∀ a17, post (w, h, ru, 1, ro, li, a1, a2, a3, a4, a5, a6, a7, a8, a9, a10, a11, a12, a13, a14, a15, upd a16 k (1 + a16 p + a16 q), a17, a18, a19, a20, a21)) : wpX_workOut post (w, h, ru, 1, ro, li, a1, a2, a3, a4, a5, a6, a7, a8, a9, a10, a11, a12, a13, a14, a15, a16, a17, a18, a19, a20, a21) (nI k) := by
  have ck : (nI k).toNatClampNeg = k := nI_clamp (by omega)
  have i1 : vp_in (a13 (nI k).toNatClampNeg) 64 := by rw [ck, e1]; exact vp_in_nI hp (by omega)
  have i2 : vp_in (a14 (nI k).toNatClampNeg) 64 := by rw [ck, e2]; exact vp_in_nI hq (by omega)
  have ik : vp_in (nI k) 64 := vp_in_nI hk (by omega)
  exact ⟨ik, i1, ik, i2, ik, nm_r (by rw [ck, e1, e2, nI_clamp (by omega), nI_clamp (by omega)]) ⟨1, br_t (by decide) ⟨ik, nm_e (H _)⟩⟩⟩
/-- a symbol without parts gets the least free node -/
theorem br_growL {post : Int32 → St2 → Prop} {n pn i m : Nat} (hi : i < 32) (hc : br_leaf (a18 i)) (hn : pn < 64) (hm : 1 ≤ m) (hm' : m < 64) (hf : a11 m = 0) (hu : ∀ j, 1 ≤ j → j < m → ¬ a11 j = 0)
    (H : ∀ a15 a17, wX_grow_9 post n (nI (pn + 1)) (nI i + (-1)) w h ru 1 ro li a1 a2 a3 a4 a5 a6 a7 a8 a9 a10 (upd a11 m 1) (upd a12 m (a18 i)) (upd a13 m 0) (upd a14 m 0) a15 (upd a16 m (1 + a16 0 + a16 0)) a17 a18 a19 (upd a20 pn (nI m)) a21) :
    wX_grow_9 post (n + 1) (nI pn) (nI i) w h ru 1 ro li a1 a2 a3 a4 a5 a6 a7 a8 a9 a10 a11 a12 a13 a14 a15 a16 a17 a18 a19 a20 a21 := by
  have ci : (nI i).toNatClampNeg = i := nI_clamp (by omega)
  have cm : (nI m).toNatClampNeg = m := nI_clamp (by omega)
  have cn : (nI pn).toNatClampNeg = pn := nI_clamp (by omega)
  have ii : vp_in (nI i) 32 := vp_in_nI hi (by omega)
  have im : vp_in (nI m) 64 := vp_in_nI hm' (by omega)
  have i0 : vp_in (0 : Int32) 64 := vp_in_nI (n := 0) (by omega) (by omega)
  refine br_f (nI_pos (by omega)) ⟨ii, br_parts0 (by rw [ci]; exact hc) (br_fresh hm hm' hf hu ?_)⟩
  refine ⟨ii, im, nm_r (by rw [cm, ci]) (br_t (by decide) ⟨im, nm_r (by rw [cm]) (br_t (by decide) ⟨im, nm_r (by rw [cm]) ⟨im, nm_e ⟨im, by rw [cm, pk_us]; exact i0, nm_e ⟨im, by rw [cm, pk_us]; exact i0, nm_e ?_⟩⟩⟩⟩)⟩)⟩
  refine br_work (k := m) (p := 0) (q := 0) hm' (by omega) (by omega) pk_us pk_us (fun a17 => ?_)
  exact nm_r (show nI pn - 0 = nI pn from pk_sub (Nat.zero_le pn)) ⟨vp_in_nI hn (by omega), nm_r (by rw [cn]) (nm_r (nI_1 pn) (nm_e (H _ _)))⟩
/-- a symbol with one part, the part being node k -/
theorem br_growO {post : Int32 → St2 → Prop} {n pn i m k : Nat} (hi : i < 32) (hc : a18 i = 3 ∨ a18 i = 4) (hn : pn < 63) (hk : k < 64) (ek : a20 pn = nI k) (hm : 1 ≤ m) (hm' : m < 64) (hf : a11 m = 0) (hu : ∀ j, 1 ≤ j → j < m → ¬ a11 j = 0)
    (H : ∀ a15 a17, wX_grow_9 post n (nI (pn + 1)) (nI i + (-1)) w h ru 1 ro li a1 a2 a3 a4 a5 a6 a7 a8 a9 a10 (upd a11 m 1) (upd a12 m (a18 i)) (upd a13 m (nI k)) (upd a14 m 0) a15 (upd a16 m (1 + a16 k + a16 0)) a17 a18 a19 (upd a20 pn (nI m)) a21) :
    wX_grow_9 post (n + 1) (nI (pn + 1)) (nI i) w h ru 1 ro li a1 a2 a3 a4 a5 a6 a7 a8 a9 a10 a11 a12 a13 a14 a15 a16 a17 a18 a19 a20 a21 := by
  have ci : (nI i).toNatClampNeg = i := nI_clamp (by omega)
  have cm : (nI m).toNatClampNeg = m := nI_clamp (by omega)
  have ck : (nI k).toNatClampNeg = k := nI_clamp (by omega)
  have cn : (nI pn).toNatClampNeg = pn := nI_clamp (by omega)
  have ii : vp_in (nI i) 32 := vp_in_nI hi (by omega)
  have im : vp_in (nI m) 64 := vp_in_nI hm' (by omega)
  have ik : vp_in (nI k) 64 := vp_in_nI hk (by omega)
  have i0 : vp_in (0 : Int32) 64 := vp_in_nI (n := 0) (by omega) (by omega)
  have en : nI (pn + 1) - 1 = nI pn := nI_pred pn
  refine br_f (nI_pos (by omega)) ⟨ii, br_parts1 (by rw [ci]; exact hc) (br_fresh hm hm' hf hu ?_)⟩
  refine ⟨ii, im, nm_r (by rw [cm, ci]) (br_f (by decide) ⟨by rw [en]; exact vp_in_nI (by omega) (by omega), ⟨im, nm_r (by rw [cm, en, cn, ek]) (br_t (by decide) ⟨im, nm_r (by rw [cm]) ⟨im, nm_e ⟨im, by rw [cm, pk_us]; exact ik, nm_e ⟨im, by rw [cm, pk_us]; exact i0, nm_e ?_⟩⟩⟩⟩)⟩⟩)⟩
  refine br_work (k := m) (p := k) (q := 0) hm' hk (by omega) pk_us pk_us (fun a17 => ?_)
  exact nm_r en ⟨vp_in_nI (by omega) (by omega), nm_r (by rw [cn]) (nm_r (nI_1 pn) (nm_e (H _ _)))⟩
end
end
section
section
variable {w h ru pa ro li : Int32} {a1 a2 a3 a4 a5 a6 a7 a8 a9 a10 a11 a12 a13 a14 a15 a16 a18 a19 a20 a21 : Nat → Int32} {a17 : Nat → Int64}
/-- the tree: sz nodes, c0 at the top and c1 below it -/
def br_K (sz : Nat) (c0 c1 : Int32) (a12 a13 a14 a16 : Nat → Int32) : Prop :=
  (sz = 1 ∧ a12 1 = c0 ∧ a13 1 = 0 ∧ a14 1 = 0 ∧ a16 1 = 1) ∨
  (sz = 2 ∧ a12 2 = c0 ∧ a12 1 = c1 ∧ a13 2 = 1 ∧ a14 2 = 0 ∧ a13 1 = 0 ∧ a14 1 = 0 ∧ a16 2 = 2)
/-- a tree of one node out of a line of one symbol -/
theorem br_grow1 {post : Int32 → St2 → Prop} (hc : br_leaf (a18 0)) (hf : a11 1 = 0) (h2 : a11 2 = 0) (h0 : a16 0 = 0)
    (H : ∀ a11' a12' a13' a14' a15' a16' a17' a20', a11' 2 = 0 → a16' 0 = 0 → br_K 1 (a18 0) 0 a12' a13' a14' a16' → post 1 (w, h, ru, 1, ro, 1, a1, a2, a3, a4, a5, a6, a7, a8, a9, a10, a11', a12', a13', a14', a15', a16', a17', a18, a19, a20', a21)) :
    wpX_grow post (w, h, ru, 1, ro, 1, a1, a2, a3, a4, a5, a6, a7, a8, a9, a10, a11, a12, a13, a14, a15, a16, a17, a18, a19, a20, a21) := by
  refine nm_r (show (1 : Int32) - 1 = nI 0 by decide) ⟨2, ?_⟩
  refine br_growL (pn := 0) (i := 0) (m := 1) (by omega) hc (by omega) (by omega) (by omega) hf (fun j h1 h2 => absurd h2 (by omega)) (fun a15 a17 => ?_)
  refine br_t (by decide) (nm_e ?_)
  have e : upd a20 0 (nI 1) 0 = 1 := pk_us
  rw [e]
  refine H _ _ _ _ _ _ _ _ ?_ ?_ (Or.inl ⟨rfl, pk_us, pk_us, pk_us, ?_⟩)
  · rw [pk_un (by decide)]; exact h2
  · rw [pk_un (by decide)]; exact h0
  · rw [pk_us, h0]; decide
/-- a tree of two nodes out of a line of two symbols -/
theorem br_grow2 {post : Int32 → St2 → Prop} (hc : br_leaf (a18 1)) (hd : a18 0 = 3 ∨ a18 0 = 4) (hf : a11 1 = 0) (h2 : a11 2 = 0) (h0 : a16 0 = 0)
    (H : ∀ a11' a12' a13' a14' a15' a16' a17' a20', br_K 2 (a18 0) (a18 1) a12' a13' a14' a16' → post 2 (w, h, ru, 1, ro, 2, a1, a2, a3, a4, a5, a6, a7, a8, a9, a10, a11', a12', a13', a14', a15', a16', a17', a18, a19, a20', a21)) :
    wpX_grow post (w, h, ru, 1, ro, 2, a1, a2, a3, a4, a5, a6, a7, a8, a9, a10, a11, a12, a13, a14, a15, a16, a17, a18, a19, a20, a21) := by
  refine nm_r (show (2 : Int32) - 1 = nI 1 by decide) ⟨3, ?_⟩
  refine br_growL (pn := 0) (i := 1) (m := 1) (by omega) hc (by omega) (by omega) (by omega) hf (fun j h1 h2 => absurd h2 (by omega)) (fun a15 a17 => ?_)
  rw [show nI 1 + (-1) = nI 0 from pk_m1 0]
  refine br_growO (pn := 0) (i := 0) (m := 2) (k := 1) (by omega) hd (by omega) (by omega) pk_us (by omega) (by omega) ?_ ?_ (fun a15 a17 => ?_)
  · rw [pk_un (by decide)]; exact h2
  · intro j h1 h2
    have e : j = 1 := by omega
    rw [e, pk_us]; decide
  · refine br_t (by decide) (nm_e ?_)
    have e : upd (upd a20 0 (nI 1)) 0 (nI 2) 0 = 2 := pk_us
    rw [e]
    refine H _ _ _ _ _ _ _ _ (Or.inr ⟨rfl, pk_us, ?_, pk_us, pk_us, ?_, ?_, ?_⟩)
    · rw [pk_un (by decide), pk_us]
    · rw [pk_un (by decide), pk_us]
    · rw [pk_un (by decide), pk_us]
    · rw [pk_us, pk_us, pk_un (by decide), h0]; decide
/-- the object as it is made -/
theorem br_init {post : St2 → Prop} (H : ∀ (a1 a2 a3 a4 a5 a6 a7 a8 a9 a10 a11 a12 a13 a14 a15 a16 : Nat → Int32) (a17 : Nat → Int64) (a18 a19 a20 a21 : Nat → Int32), a11 2 = 0 → a16 0 = 0 → br_K 1 0 0 a12 a13 a14 a16 → post (0, 0, 0, 1, 1, 1, a1, a2, a3, a4, a5, a6, a7, a8, a9, a10, a11, a12, a13, a14, a15, a16, a17, a18, a19, a20, a21)) : wpX_init post 21 1006 (0, 0, 0, 0, 0, 0) := by
  unfold wpX_init
  dsimp only
  repeat' apply And.intro
  all_goals try decide
  refine nm_e (br_grow1 ?_ rfl rfl rfl (fun a11' a12' a13' a14' a15' a16' a17' a20' h2 h0 hK => H _ _ _ _ _ _ _ _ _ _ _ _ _ _ _ _ _ _ _ _ _ h2 h0 hK))
  rw [pk_us]
  exact ⟨by decide, by decide, by decide, by decide⟩
theorem br_b_out {post : Int32 → St2 → Prop} {c : Int32} (hc : c < 0 ∨ ¬ c ≤ 9) (H : post (-1) (w, h, ru, pa, ro, li, a1, a2, a3, a4, a5, a6, a7, a8, a9, a10, a11, a12, a13, a14, a15, a16, a17, a18, a19, a20, a21)) : wpX_build post (w, h, ru, pa, ro, li, a1, a2, a3, a4, a5, a6, a7, a8, a9, a10, a11, a12, a13, a14, a15, a16, a17, a18, a19, a20, a21) c :=
  br_c (fun _ => H) (fun h0 => br_c (fun h9 => absurd hc (fun z => z.elim h0 (fun g => g h9))) (fun _ => H))
theorem br_b_leaf {post : Int32 → St2 → Prop} {c : Int32} {k j : Nat} (h0 : ¬ c < 0) (h9 : c ≤ 9) (hc : br_leaf c) (hk : k < 31) (hj : j < 6)
    (H : post (nI (j + 1)) (nI (k + 1), nI (j + 1), ru, pa, ro, li, upd a1 k c, upd a2 j (nI k), a3, a4, a5, a6, a7, a8, a9, a10, a11, a12, a13, a14, a15, a16, a17, a18, a19, a20, a21)) : wpX_build post (nI k, nI j, ru, pa, ro, li, a1, a2, a3, a4, a5, a6, a7, a8, a9, a10, a11, a12, a13, a14, a15, a16, a17, a18, a19, a20, a21) c := by
  have ck : (nI k).toNatClampNeg = k := nI_clamp (by omega)
  have cj : (nI j).toNatClampNeg = j := nI_clamp (by omega)
  refine br_f h0 (br_t h9 (br_parts0 hc ?_))
  refine pk_eq k 31 (fun z => absurd z (by omega)) (fun _ => br_t rfl (pk_eq j 6 (fun z => absurd z (by omega)) (fun _ => ?_)))
  refine pk_le 0 j (fun _ => br_t rfl ⟨vp_in_nI hj (by omega), nm_r (by rw [cj]) ?_⟩) (fun z => absurd z (by omega))
  refine nm_r (show nI j + 1 - 0 = nI (j + 1) by rw [nI_1]; exact pk_sub (Nat.zero_le _)) ⟨vp_in_nI hk (by omega), nm_r (by rw [ck]) (nm_r (nI_1 k) H)⟩
theorem br_b_one {post : Int32 → St2 → Prop} {c : Int32} {k j : Nat} (hc : c = 3 ∨ c = 4) (hk : k < 31) (hj : j < 6)
    (H : post (nI (j + 1)) (nI (k + 1), nI (j + 1), ru, pa, ro, li, upd a1 k c, a2, a3, a4, a5, a6, a7, a8, a9, a10, a11, a12, a13, a14, a15, a16, a17, a18, a19, a20, a21)) : wpX_build post (nI k, nI (j + 1), ru, pa, ro, li, a1, a2, a3, a4, a5, a6, a7, a8, a9, a10, a11, a12, a13, a14, a15, a16, a17, a18, a19, a20, a21) c := by
  have ck : (nI k).toNatClampNeg = k := nI_clamp (by omega)
  have h0 : ¬ c < 0 := by rcases hc with rfl | rfl <;> decide
  have h9 : c ≤ 9 := by rcases hc with rfl | rfl <;> decide
  refine br_f h0 (br_t h9 (br_parts1 hc ?_))
  refine pk_eq k 31 (fun z => absurd z (by omega)) (fun _ => br_f (by decide) ?_)
  refine pk_le 1 (j + 1) (fun _ => br_f (by decide) ?_) (fun z => absurd z (by omega))
  exact nm_r (show nI (j + 1) + 1 - 1 = nI (j + 1) by rw [nI_1]; exact nI_pred _) ⟨vp_in_nI hk (by omega), nm_r (by rw [ck]) (nm_r (nI_1 k) H)⟩
theorem br_b_one0 {post : Int32 → St2 → Prop} {c : Int32} {k : Nat} (hc : c = 3 ∨ c = 4) (hk : k < 31)
    (H : post (-3) (nI k, 0, ru, pa, ro, li, a1, a2, a3, a4, a5, a6, a7, a8, a9, a10, a11, a12, a13, a14, a15, a16, a17, a18, a19, a20, a21)) : wpX_build post (nI k, 0, ru, pa, ro, li, a1, a2, a3, a4, a5, a6, a7, a8, a9, a10, a11, a12, a13, a14, a15, a16, a17, a18, a19, a20, a21) c := by
  have h0 : ¬ c < 0 := by rcases hc with rfl | rfl <;> decide
  have h9 : c ≤ 9 := by rcases hc with rfl | rfl <;> decide
  refine br_f h0 (br_t h9 (br_parts1 hc ?_))
  refine pk_eq k 31 (fun z => absurd z (by omega)) (fun _ => br_f (by decide) ?_)
  exact br_f (by decide) H
theorem br_b_two {post : Int32 → St2 → Prop} {c : Int32} {k j : Nat} (hc : c = 5 ∨ c = 6) (hk : k < 31) (hj : j < 2)
    (H : post (-3) (nI k, nI j, ru, pa, ro, li, a1, a2, a3, a4, a5, a6, a7, a8, a9, a10, a11, a12, a13, a14, a15, a16, a17, a18, a19, a20, a21)) : wpX_build post (nI k, nI j, ru, pa, ro, li, a1, a2, a3, a4, a5, a6, a7, a8, a9, a10, a11, a12, a13, a14, a15, a16, a17, a18, a19, a20, a21) c := by
  have h0 : ¬ c < 0 := by rcases hc with rfl | rfl <;> decide
  have h9 : c ≤ 9 := by rcases hc with rfl | rfl <;> decide
  refine br_f h0 (br_t h9 (br_parts2 hc ?_))
  refine pk_eq k 31 (fun z => absurd z (by omega)) (fun _ => br_f (by decide) ?_)
  exact pk_le 2 j (fun z => absurd z (by omega)) (fun _ => H)
/-- the variables of a term of one symbol -/
theorem br_v1 {post : Int32 → Prop} {k : Nat} (hk : k < 31) (hc : a1 k < 7) (H : post 0) : wpX_variablesOf post (w, h, ru, pa, ro, li, a1, a2, a3, a4, a5, a6, a7, a8, a9, a10, a11, a12, a13, a14, a15, a16, a17, a18, a19, a20, a21) (nI k) (nI (k + 1)) := by
  have ck : (nI k).toNatClampNeg = k := nI_clamp (by omega)
  refine ⟨2, pk_le (k + 1) k (fun z => absurd z (by omega)) (fun _ => ⟨vp_in_nI hk (by omega), br_t (by rw [ck]; exact hc) (nm_r (nI_1 k) ?_)⟩)⟩
  exact pk_le (k + 1) (k + 1) (fun _ => H) (fun z => absurd z (by omega))
theorem br_bit {c : Int32} (hc : c = 7 ∨ c = 8 ∨ c = 9) : ¬ (0 : Int32) ||| ((1 : Int32) <<< ((c - 7) &&& 31)) = 0 := by
  rcases hc with rfl | rfl | rfl <;> decide
theorem br_v1v {post : Int32 → Prop} {k : Nat} (hk : k < 31) (hc : a1 k = 7 ∨ a1 k = 8 ∨ a1 k = 9) (H : ∀ r, ¬ r = 0 → post r) : wpX_variablesOf post (w, h, ru, pa, ro, li, a1, a2, a3, a4, a5, a6, a7, a8, a9, a10, a11, a12, a13, a14, a15, a16, a17, a18, a19, a20, a21) (nI k) (nI (k + 1)) := by
  have ck : (nI k).toNatClampNeg = k := nI_clamp (by omega)
  have ik : vp_in (nI k) 31 := vp_in_nI hk (by omega)
  have h7 : ¬ a1 k < 7 := by rcases hc with e | e | e <;> rw [e] <;> decide
  refine ⟨2, pk_le (k + 1) k (fun z => absurd z (by omega)) (fun _ => ⟨ik, br_f (by rw [ck]; exact h7) ⟨ik, nm_e (nm_r (nI_1 k) ?_)⟩⟩)⟩
  exact pk_le (k + 1) (k + 1) (fun _ => H _ (by rw [ck]; exact br_bit hc)) (fun z => absurd z (by omega))
/-- the variables of a term of two symbols -/
theorem br_v2 {post : Int32 → Prop} (hc : a1 0 < 7) (hd : a1 1 < 7) (H : post 0) : wpX_variablesOf post (w, h, ru, pa, ro, li, a1, a2, a3, a4, a5, a6, a7, a8, a9, a10, a11, a12, a13, a14, a15, a16, a17, a18, a19, a20, a21) 0 2 := by
  refine ⟨3, pk_le 2 0 (fun z => absurd z (by omega)) (fun _ => ⟨pk_in 0 31 (by omega), br_t hc (nm_r (nI_1 0) ?_)⟩)⟩
  refine pk_le 2 1 (fun z => absurd z (by omega)) (fun _ => ⟨pk_in 1 31 (by omega), br_t hd (nm_r (nI_1 1) ?_)⟩)
  exact pk_le 2 2 (fun _ => H) (fun z => absurd z (by omega))
theorem br_v2v {post : Int32 → Prop} (hc : a1 0 = 7 ∨ a1 0 = 8 ∨ a1 0 = 9) (hd : a1 1 < 7) (H : ∀ r, ¬ r = 0 → post r) : wpX_variablesOf post (w, h, ru, pa, ro, li, a1, a2, a3, a4, a5, a6, a7, a8, a9, a10, a11, a12, a13, a14, a15, a16, a17, a18, a19, a20, a21) 0 2 := by
  have h7 : ¬ a1 0 < 7 := by rcases hc with e | e | e <;> rw [e] <;> decide
  refine ⟨3, pk_le 2 0 (fun z => absurd z (by omega)) (fun _ => ⟨pk_in 0 31 (by omega), br_f h7 ⟨pk_in 0 31 (by omega), nm_e (nm_r (nI_1 0) ?_)⟩⟩)⟩
  refine pk_le 2 1 (fun z => absurd z (by omega)) (fun _ => ⟨pk_in 1 31 (by omega), br_t hd (nm_r (nI_1 1) ?_)⟩)
  exact pk_le 2 2 (fun _ => H _ (br_bit hc)) (fun z => absurd z (by omega))
/-- a symbol without parts goes at the end of the line -/
theorem br_lineL {post : St2 → Prop} {n e i tm l : Nat} (he : e < 32) (hi : i < e) (hi' : i < 31) (hl : l < 32) (ht : tm < 64) (hc : br_leaf (a1 i))
    (H : wX_lineUp_10 post (nI e) w h ru pa ro n (nI (tm + 1)) (nI (i + 1)) (nI (l + 1)) a1 a2 a3 a4 a5 a6 a7 a8 a9 a10 a11 a12 a13 a14 a15 a16 a17 (upd a18 l (a1 i)) a19 (upd a20 tm (nI l)) a21) :
    wX_lineUp_10 post (nI e) w h ru pa ro (n + 1) (nI tm) (nI i) (nI l) a1 a2 a3 a4 a5 a6 a7 a8 a9 a10 a11 a12 a13 a14 a15 a16 a17 a18 a19 a20 a21 := by
  have ci : (nI i).toNatClampNeg = i := nI_clamp (by omega)
  have cl : (nI l).toNatClampNeg = l := nI_clamp (by omega)
  have ct : (nI tm).toNatClampNeg = tm := nI_clamp (by omega)
  have ii : vp_in (nI i) 31 := vp_in_nI hi' (by omega)
  refine pk_le e i (fun z => absurd z (by omega)) (fun _ => ⟨ii, br_parts0 (by rw [ci]; exact hc) ?_⟩)
  refine nm_r (show nI tm - 0 = nI tm from pk_sub (Nat.zero_le _)) (br_t rfl ⟨1, pk_le l l (fun _ => ?_) (fun z => absurd z (by omega))⟩)
  exact ⟨ii, vp_in_nI hl (by omega), nm_r (by rw [cl, ci]) (nm_r (nI_1 l) ⟨vp_in_nI ht (by omega), nm_r (by rw [ct]) (nm_r (nI_1 tm) (nm_r (nI_1 i) H))⟩)⟩
/-- a term of one symbol is lined up -/
theorem br_line1 {post : St2 → Prop} {k : Nat} (hk : k < 31) (hc : br_leaf (a1 k)) (H : ∀ a18' a20', a18' 0 = a1 k → post (w, h, ru, pa, ro, 1, a1, a2, a3, a4, a5, a6, a7, a8, a9, a10, a11, a12, a13, a14, a15, a16, a17, a18', a19, a20', a21)) : wpX_lineUp post (w, h, ru, pa, ro, li, a1, a2, a3, a4, a5, a6, a7, a8, a9, a10, a11, a12, a13, a14, a15, a16, a17, a18, a19, a20, a21) (nI k) (nI (k + 1)) := by
  refine ⟨2, br_lineL (e := k + 1) (i := k) (tm := 0) (l := 0) (by omega) (by omega) hk (by omega) (by omega) hc ?_⟩
  exact pk_le (k + 1) (k + 1) (fun _ => H _ _ pk_us) (fun z => absurd z (by omega))
/-- a term of two symbols is lined up -/
theorem br_line2 {post : St2 → Prop} (hc : br_leaf (a1 0)) (hd : a1 1 = 3 ∨ a1 1 = 4) (H : ∀ a18' a20', a18' 0 = a1 1 → a18' 1 = a1 0 → post (w, h, ru, pa, ro, 2, a1, a2, a3, a4, a5, a6, a7, a8, a9, a10, a11, a12, a13, a14, a15, a16, a17, a18', a19, a20', a21)) : wpX_lineUp post (w, h, ru, pa, ro, li, a1, a2, a3, a4, a5, a6, a7, a8, a9, a10, a11, a12, a13, a14, a15, a16, a17, a18, a19, a20, a21) 0 2 := by
  refine ⟨3, br_lineL (e := 2) (i := 0) (tm := 0) (l := 0) (by omega) (by omega) (by omega) (by omega) (by omega) hc ?_⟩
  refine pk_le 2 1 (fun z => absurd z (by omega)) (fun _ => ⟨pk_in 1 31 (by omega), br_parts1 hd ?_⟩)
  refine nm_r (show nI 1 - 1 = nI 0 by decide) (br_f (by decide) ⟨pk_in 0 64 (by omega), nm_r (e' := nI 0) pk_us ⟨2, ?_⟩⟩)
  refine pk_le 1 0 (fun z => absurd z (by omega)) (fun _ => ⟨pk_in 0 32 (by omega), pk_in 1 32 (by omega), nm_e (nm_r (pk_m1 0) ?_)⟩)
  refine pk_le 0 0 (fun _ => ⟨pk_in 1 31 (by omega), pk_in 0 32 (by omega), nm_e (nm_r (nI_1 1) ⟨pk_in 0 64 (by omega), nm_e (nm_r (nI_1 0) (nm_r (nI_1 1) ?_))⟩)⟩) (fun z => absurd z (by omega))
  refine pk_le 2 2 (fun _ => H _ _ pk_us ?_) (fun z => absurd z (by omega))
  show upd (upd (upd a18 0 (a1 0)) 1 (upd a18 0 (a1 0) 0)) 0 (a1 1) 1 = a1 0
  rw [pk_un (by decide), pk_us, pk_us]
end
end
section
section
variable {w h ru pa ro li : Int32} {a1 a2 a3 a4 a5 a6 a7 a8 a9 a10 a11 a12 a13 a14 a15 a16 a18 a19 a20 a21 : Nat → Int32} {a17 : Nat → Int64}
/-- the places of the tree, listed: the top first -/
theorem br_list {post : Int32 → St2 → Prop} {sz : Nat} {c0 c1 : Int32} (hK : br_K sz c0 c1 a12 a13 a14 a16)
    (H : ∀ a19' a20', a19' 0 = nI sz → (sz = 2 → a19' 1 = 1) → post (nI sz) (w, h, ru, pa, ro, li, a1, a2, a3, a4, a5, a6, a7, a8, a9, a10, a11, a12, a13, a14, a15, a16, a17, a18, a19', a20', a21)) : wpX_listPlaces post (w, h, ru, pa, ro, li, a1, a2, a3, a4, a5, a6, a7, a8, a9, a10, a11, a12, a13, a14, a15, a16, a17, a18, a19, a20, a21) (nI sz) := by
  rcases hK with ⟨rfl, h12, h13, h14, h16⟩ | ⟨rfl, h12, h12', h13, h14, h13', h14', h16⟩
  · refine nm_e ⟨2, ?_⟩
    refine br_f (by decide) (br_f (by decide) (nm_r (e' := nI 0) (by decide) ⟨pk_in 0 64 (by omega), nm_r (e' := nI 1) pk_us ⟨pk_in 0 32 (by omega), nm_e (nm_r (e' := nI 1) (by decide) ⟨pk_in 1 64 (by omega), br_t h14 ⟨pk_in 1 64 (by omega), br_t h13 (nm_r (e' := nI 1) (by decide) ?_)⟩⟩)⟩⟩))
    exact br_f (by decide) (br_t (by decide) (H _ _ pk_us (fun z => absurd z (by decide))))
  · refine nm_e ⟨3, ?_⟩
    refine br_f (by decide) (br_f (by decide) (nm_r (e' := nI 0) (by decide) ⟨pk_in 0 64 (by omega), nm_r (e' := nI 2) pk_us ⟨pk_in 0 32 (by omega), nm_e (nm_r (e' := nI 1) (by decide) ⟨pk_in 2 64 (by omega), br_t h14 ⟨pk_in 2 64 (by omega), br_f ?_ ⟨pk_in 2 64 (by omega), pk_in 0 64 (by omega), nm_r (e' := upd (upd a20 0 (nI 2)) 0 (nI 1)) ?_ (nm_r (e' := nI 1) (by decide) (nm_r (e' := nI 1) (by decide) ?_))⟩⟩⟩)⟩⟩))
    · show ¬ a13 2 = 0
      rw [h13]; decide
    · show upd (upd a20 0 (nI 2)) 0 (a13 2) = _
      rw [h13]; rfl
    refine br_f (by decide) (br_f (by decide) (nm_r (e' := nI 0) (by decide) ⟨pk_in 0 64 (by omega), nm_r (e' := nI 1) pk_us ⟨pk_in 1 32 (by omega), nm_e (nm_r (e' := nI 2) (by decide) ⟨pk_in 1 64 (by omega), br_t h14' ⟨pk_in 1 64 (by omega), br_t h13' (nm_r (e' := nI 2) (by decide) ?_)⟩⟩)⟩⟩))
    refine br_f (by decide) (br_t (by decide) (H _ _ ?_ (fun _ => pk_us)))
    show upd (upd a19 0 (nI 2)) 1 (nI 1) 0 = nI 2
    rw [pk_un (by decide), pk_us]
/-- the tree of one node is given back -/
theorem br_rel {post : St2 → Prop} {c0 c1 : Int32} (hK : br_K 1 c0 c1 a12 a13 a14 a16) (H : ∀ a19' a20', post (w, h, ru, pa, ro, li, a1, a2, a3, a4, a5, a6, a7, a8, a9, a10, upd a11 1 0, a12, a13, a14, a15, a16, a17, a18, a19', a20', a21)) : wpX_release post (w, h, ru, pa, ro, li, a1, a2, a3, a4, a5, a6, a7, a8, a9, a10, a11, a12, a13, a14, a15, a16, a17, a18, a19, a20, a21) 1 := by
  refine br_list hK (fun a19' a20' e0 _ => ⟨2, ?_⟩)
  have cl : (a19' (0 : Int32).toNatClampNeg) = nI 1 := e0
  refine br_f (by decide) ⟨pk_in 0 32 (by omega), by rw [cl]; exact pk_in 1 64 (by omega), nm_r (e' := upd a11 1 0) (by rw [cl]; rfl) (nm_r (e' := nI 1) (by decide) ?_)⟩
  exact br_t (by decide) (H _ _)
/-- no rule fits anywhere -/
theorem br_rule {post : Int32 → Prop} {x : Int32} (H : post (-4)) : wpX_ruleAt post (w, h, 0, pa, ro, li, a1, a2, a3, a4, a5, a6, a7, a8, a9, a10, a11, a12, a13, a14, a15, a16, a17, a18, a19, a20, a21) x := ⟨1, br_t (by decide) H⟩
theorem br_next {post : Int32 → St2 → Prop} {sz : Nat} {c0 c1 : Int32} (hK : br_K sz c0 c1 a12 a13 a14 a16) (H : ∀ a19' a20', post (-4) (w, h, 0, pa, nI sz, li, a1, a2, a3, a4, a5, a6, a7, a8, a9, a10, a11, a12, a13, a14, a15, a16, a17, a18, a19', a20', a21)) : wpX_nextPlace post (w, h, 0, pa, nI sz, li, a1, a2, a3, a4, a5, a6, a7, a8, a9, a10, a11, a12, a13, a14, a15, a16, a17, a18, a19, a20, a21) := by
  have hs : sz ≤ 2 := by rcases hK with ⟨e, _⟩ | ⟨e, _⟩ <;> omega
  refine br_list hK (fun a19' a20' _ _ => ?_)
  refine pk_loop (σ := Unit) (fun n i _ => wX_nextPlace_11 post (nI sz) w h 0 pa (nI sz) li a1 a2 a3 a4 a5 a6 a7 a8 a9 a10 a11 a12 a13 a14 a15 a16 a17 a18 a19' a20' a21 n (nI i)) (fun _ _ => True) sz 0 () (by omega) trivial ?_ ?_
  · intro n _ _
    exact pk_le sz sz (fun _ => H _ _) (fun z => absurd z (by omega))
  · intro n i _ hi _ hk
    refine pk_le sz i (fun z => absurd z (by omega)) (fun _ => ⟨pk_in i 32 (by omega), br_rule (br_t (by decide) (nm_r (nI_1 i) (hk () trivial)))⟩)
theorem br_step {post : Int32 → St2 → Prop} {sz : Nat} {c0 c1 : Int32} (hK : br_K sz c0 c1 a12 a13 a14 a16) (H : ∀ a19' a20', post (-4) (w, h, 0, pa, nI sz, li, a1, a2, a3, a4, a5, a6, a7, a8, a9, a10, a11, a12, a13, a14, a15, a16, a17, a18, a19', a20', a21)) : wpX_step post (w, h, 0, pa, nI sz, li, a1, a2, a3, a4, a5, a6, a7, a8, a9, a10, a11, a12, a13, a14, a15, a16, a17, a18, a19, a20, a21) :=
  br_next hK (fun a19' a20' => br_f (by decide) (H _ _))
theorem br_run {post : Int32 → St2 → Prop} {sz : Nat} {c0 c1 x : Int32} (hK : br_K sz c0 c1 a12 a13 a14 a16) (H : ∀ a19' a20', post 0 (w, h, 0, pa, nI sz, li, a1, a2, a3, a4, a5, a6, a7, a8, a9, a10, a11, a12, a13, a14, a15, a16, a17, a18, a19', a20', a21)) : wpX_run post (w, h, 0, pa, nI sz, li, a1, a2, a3, a4, a5, a6, a7, a8, a9, a10, a11, a12, a13, a14, a15, a16, a17, a18, a19, a20, a21) x := by
  refine ⟨2, br_c (fun _ => H _ _) (fun _ => br_f (by decide) (br_f (by decide) (br_step hK (fun a19' a20' => br_t (by decide) (br_t rfl (nm_e ?_))))))⟩
  exact br_c (fun _ => H _ _) (fun _ => br_f (by decide) (br_t rfl (H _ _)))
/-- the node at place x, and 0 where there is none -/
theorem br_node {post : Int32 → St2 → Prop} {sz : Nat} {c0 c1 x : Int32} (hK : br_K sz c0 c1 a12 a13 a14 a16)
    (H0 : ¬ x = 0 → ¬ (x = 1 ∧ sz = 2) → post 0 (w, h, ru, pa, nI sz, li, a1, a2, a3, a4, a5, a6, a7, a8, a9, a10, a11, a12, a13, a14, a15, a16, a17, a18, a19, a20, a21))
    (H1 : x = 0 → ∀ a19' a20', post (nI sz) (w, h, ru, pa, nI sz, li, a1, a2, a3, a4, a5, a6, a7, a8, a9, a10, a11, a12, a13, a14, a15, a16, a17, a18, a19', a20', a21))
    (H2 : x = 1 → sz = 2 → ∀ a19' a20', post 1 (w, h, ru, pa, nI sz, li, a1, a2, a3, a4, a5, a6, a7, a8, a9, a10, a11, a12, a13, a14, a15, a16, a17, a18, a19', a20', a21)) : wpX_nodeAt post (w, h, ru, pa, nI sz, li, a1, a2, a3, a4, a5, a6, a7, a8, a9, a10, a11, a12, a13, a14, a15, a16, a17, a18, a19, a20, a21) x := by
  have hs : 1 ≤ sz ∧ sz ≤ 2 := by rcases hK with ⟨e, _⟩ | ⟨e, _⟩ <;> omega
  have cs : (nI sz).toNatClampNeg = sz := nI_clamp (by omega)
  have e16 : a16 sz = nI sz := by
    rcases hK with ⟨rfl, _, _, _, e⟩ | ⟨rfl, _, _, _, _, _, _, e⟩
    · exact e
    · exact e
  refine br_c (fun hx => H0 (fun z => absurd hx (by rw [z]; decide)) (fun z => absurd hx (by rw [z.1]; decide))) (fun hx => ⟨vp_in_nI (by omega) (by omega), ?_⟩)
  obtain ⟨j, hj, rfl⟩ := nI_of hx
  have cj : (nI j).toNatClampNeg = j := nI_clamp hj
  show ((nI j < a16 (nI sz).toNatClampNeg → _) ∧ (¬ nI j < a16 (nI sz).toNatClampNeg → _))
  rw [cs, e16]
  refine pk_lt j sz (fun hlt => ?_) (fun hge => H0 (fun z => ?_) (fun z => ?_))
  · refine br_list hK (fun a19' a20' q0 q1 => ⟨vp_in_nI (by omega) (by omega), ?_⟩)
    rcases Nat.eq_zero_or_pos j with rfl | hp
    · have e : a19' (nI 0).toNatClampNeg = nI sz := q0
      rw [e]
      exact H1 rfl a19' a20'
    · obtain rfl : j = 1 := by omega
      have hz : sz = 2 := by omega
      have e : a19' (nI 1).toNatClampNeg = 1 := q1 hz
      rw [e]
      exact H2 rfl hz a19' a20'
  · rw [← nI_0, nI_eq hj (by omega)] at z
    omega
  · obtain ⟨z, z2⟩ := z
    rw [show (1 : Int32) = nI 1 from rfl, nI_eq hj (by omega)] at z
    omega
theorem br_fits {post : Int32 → St2 → Prop} {sz : Nat} {c0 c1 x : Int32} (hK : br_K sz c0 c1 a12 a13 a14 a16)
    (H : ∀ a19' a20', post (-4) (w, h, 0, pa, nI sz, li, a1, a2, a3, a4, a5, a6, a7, a8, a9, a10, a11, a12, a13, a14, a15, a16, a17, a18, a19', a20', a21)) : wpX_fits post (w, h, 0, pa, nI sz, li, a1, a2, a3, a4, a5, a6, a7, a8, a9, a10, a11, a12, a13, a14, a15, a16, a17, a18, a19, a20, a21) x := by
  have hs : 1 ≤ sz ∧ sz ≤ 2 := by rcases hK with ⟨e, _⟩ | ⟨e, _⟩ <;> omega
  unfold wpX_fits
  dsimp only
  refine br_node hK ?_ ?_ ?_
  · exact fun _ _ => br_t rfl (H _ _)
  · exact fun _ _ _ => br_f (nI_ne0 (by omega) (by omega)) (br_rule (H _ _))
  · exact fun _ _ _ _ => br_f (by decide) (br_rule (H _ _))
/-- the symbol at place x -/
def br_sym (sz : Nat) (c0 c1 x : Int32) : Int32 := if x = 0 then c0 else if x = 1 ∧ sz = 2 then c1 else -4
theorem br_symbol {post : Int32 → St2 → Prop} {sz : Nat} {c0 c1 x : Int32} (hK : br_K sz c0 c1 a12 a13 a14 a16)
    (H : ∀ a19' a20', post (br_sym sz c0 c1 x) (w, h, 0, pa, nI sz, li, a1, a2, a3, a4, a5, a6, a7, a8, a9, a10, a11, a12, a13, a14, a15, a16, a17, a18, a19', a20', a21)) : wpX_symbol post (w, h, 0, pa, nI sz, li, a1, a2, a3, a4, a5, a6, a7, a8, a9, a10, a11, a12, a13, a14, a15, a16, a17, a18, a19, a20, a21) x := by
  have hs : 1 ≤ sz ∧ sz ≤ 2 := by rcases hK with ⟨e, _⟩ | ⟨e, _⟩ <;> omega
  have cs : (nI sz).toNatClampNeg = sz := nI_clamp (by omega)
  have e0 : a12 sz = c0 := by
    rcases hK with ⟨rfl, e, _⟩ | ⟨rfl, e, _⟩
    · exact e
    · exact e
  unfold wpX_symbol
  dsimp only
  refine br_node hK ?_ ?_ ?_
  · refine fun n0 n1 => br_t rfl ?_
    have t := H a19 a20
    rw [br_sym, if_neg n0, if_neg n1] at t
    exact t
  · refine fun x0 a19' a20' => br_f (nI_ne0 (by omega) (by omega)) ⟨vp_in_nI (by omega) (by omega), ?_⟩
    have t := H a19' a20'
    rw [br_sym, if_pos x0, ← e0] at t
    show post (a12 (nI sz).toNatClampNeg) _
    rw [cs]
    exact t
  · refine fun x1 z2 a19' a20' => br_f (by decide) ⟨pk_in 1 64 (by omega), ?_⟩
    have e1 : a12 1 = c1 := by
      rcases hK with ⟨e, _⟩ | ⟨_, _, e, _⟩
      · omega
      · exact e
    have t := H a19' a20'
    rw [br_sym, if_neg (by rw [x1]; decide), if_pos ⟨x1, z2⟩, ← e1] at t
    exact t
end
end
section
section
variable {w h ru pa ro li : Int32} {a1 a2 a3 a4 a5 a6 a7 a8 a9 a10 a11 a12 a13 a14 a15 a16 a18 a19 a20 a21 : Nat → Int32} {a17 : Nat → Int64}
theorem br_s_no {post : Int32 → St2 → Prop} (H : post (-3) (w, 0, ru, pa, ro, li, a1, a2, a3, a4, a5, a6, a7, a8, a9, a10, a11, a12, a13, a14, a15, a16, a17, a18, a19, a20, a21)) : wpX_subject post (w, 0, ru, pa, ro, li, a1, a2, a3, a4, a5, a6, a7, a8, a9, a10, a11, a12, a13, a14, a15, a16, a17, a18, a19, a20, a21) := br_t rfl H
/-- the last term is a variable -/
theorem br_s_v1 {post : Int32 → St2 → Prop} {k j : Nat} (hk : k < 31) (hj : j < 6) (e2 : a2 j = nI k) (hc : a1 k = 7 ∨ a1 k = 8 ∨ a1 k = 9) (H : post (-3) (nI (k + 1), nI (j + 1), ru, pa, ro, li, a1, a2, a3, a4, a5, a6, a7, a8, a9, a10, a11, a12, a13, a14, a15, a16, a17, a18, a19, a20, a21)) :
    wpX_subject post (nI (k + 1), nI (j + 1), ru, pa, ro, li, a1, a2, a3, a4, a5, a6, a7, a8, a9, a10, a11, a12, a13, a14, a15, a16, a17, a18, a19, a20, a21) :=
  br_f (nI_ne0 (by omega) (by omega)) ⟨by rw [nI_pred]; exact vp_in_nI hj (by omega), nm_r (e' := nI k) (by rw [nI_pred, nI_clamp (by omega)]; exact e2) (br_v1v hk hc (fun r hr => br_f hr H))⟩
/-- the last term is a variable under a symbol -/
theorem br_s_v2 {post : Int32 → St2 → Prop} (e2 : a2 0 = 0) (hc : a1 0 = 7 ∨ a1 0 = 8 ∨ a1 0 = 9) (hd : a1 1 = 3 ∨ a1 1 = 4) (H : post (-3) (2, 1, ru, pa, ro, li, a1, a2, a3, a4, a5, a6, a7, a8, a9, a10, a11, a12, a13, a14, a15, a16, a17, a18, a19, a20, a21)) : wpX_subject post (2, 1, ru, pa, ro, li, a1, a2, a3, a4, a5, a6, a7, a8, a9, a10, a11, a12, a13, a14, a15, a16, a17, a18, a19, a20, a21) := by
  have h7 : a1 1 < 7 := by rcases hd with e | e <;> rw [e] <;> decide
  exact br_f (by decide) ⟨pk_in 0 6 (by omega), nm_r (e' := 0) e2 (br_v2v hc h7 (fun r hr => br_f hr H))⟩
/-- the last term is one symbol without parts: it becomes the tree -/
theorem br_s_1 {post : Int32 → St2 → Prop} {k j : Nat} {c c0 c1 : Int32} (hk : k < 31) (hj : j < 6) (e2 : a2 j = nI k) (e1 : a1 k = c) (hc : c = 0 ∨ c = 1 ∨ c = 2) (h2 : a11 2 = 0) (h0 : a16 0 = 0) (hK : br_K 1 c0 c1 a12 a13 a14 a16)
    (H : ∀ (w h li : Int32) (a1 a2 a3 a4 a5 a6 a7 a8 a9 a10 a11 a12 a13 a14 a15 a16 : Nat → Int32) (a17 : Nat → Int64) (a18 a19 a20 a21 : Nat → Int32), br_K 1 c 0 a12 a13 a14 a16 → post 1 (w, h, 0, 1, 1, li, a1, a2, a3, a4, a5, a6, a7, a8, a9, a10, a11, a12, a13, a14, a15, a16, a17, a18, a19, a20, a21)) : wpX_subject post (nI (k + 1), nI (j + 1), 0, 1, 1, li, a1, a2, a3, a4, a5, a6, a7, a8, a9, a10, a11, a12, a13, a14, a15, a16, a17, a18, a19, a20, a21) := by
  have h7 : a1 k < 7 := by rw [e1]; rcases hc with rfl | rfl | rfl <;> decide
  have hl : br_leaf (a1 k) := by rw [e1]; rcases hc with rfl | rfl | rfl <;> exact ⟨by decide, by decide, by decide, by decide⟩
  refine br_f (nI_ne0 (by omega) (by omega)) ⟨by rw [nI_pred]; exact vp_in_nI hj (by omega), nm_r (e' := nI k) (by rw [nI_pred, nI_clamp (by omega)]; exact e2) (br_v1 hk h7 (br_t rfl (br_line1 hk hl (fun a18' a20' e18 => nm_e ?_))))⟩
  refine br_rel hK (fun a19' a20'' => br_grow1 (by rw [e18]; exact hl) pk_us ?_ h0 (fun a11' a12' a13' a14' a15' a16' a17' a20' _ _ hK' => ⟨pk_in 1 64 (by omega), ?_⟩))
  · rw [pk_un (by decide)]; exact h2
  · rw [e18, e1] at hK'
    have e16 : a16' 1 = 1 := by
      rcases hK' with ⟨_, _, _, _, e⟩ | ⟨e, _⟩
      · exact e
      · exact absurd e (by decide)
    show post (a16' 1) _
    rw [e16]
    exact H _ _ _ _ _ _ _ _ _ _ _ _ _ _ _ _ _ _ _ _ _ _ _ _ hK'
/-- the last term is a symbol over one without parts -/
theorem br_s_2 {post : Int32 → St2 → Prop} {c d c0 c1 : Int32} (e2 : a2 0 = 0) (e1 : a1 0 = c) (e1' : a1 1 = d) (hc : c = 0 ∨ c = 1 ∨ c = 2) (hd : d = 3 ∨ d = 4) (h2 : a11 2 = 0) (h0 : a16 0 = 0) (hK : br_K 1 c0 c1 a12 a13 a14 a16)
    (H : ∀ (w h li : Int32) (a1 a2 a3 a4 a5 a6 a7 a8 a9 a10 a11 a12 a13 a14 a15 a16 : Nat → Int32) (a17 : Nat → Int64) (a18 a19 a20 a21 : Nat → Int32), br_K 2 d c a12 a13 a14 a16 → post 2 (w, h, 0, 1, 2, li, a1, a2, a3, a4, a5, a6, a7, a8, a9, a10, a11, a12, a13, a14, a15, a16, a17, a18, a19, a20, a21)) : wpX_subject post (2, 1, 0, 1, 1, li, a1, a2, a3, a4, a5, a6, a7, a8, a9, a10, a11, a12, a13, a14, a15, a16, a17, a18, a19, a20, a21) := by
  have h7 : a1 0 < 7 := by rw [e1]; rcases hc with rfl | rfl | rfl <;> decide
  have h7' : a1 1 < 7 := by rw [e1']; rcases hd with rfl | rfl <;> decide
  have hl : br_leaf (a1 0) := by rw [e1]; rcases hc with rfl | rfl | rfl <;> exact ⟨by decide, by decide, by decide, by decide⟩
  have ho : a1 1 = 3 ∨ a1 1 = 4 := by rw [e1']; exact hd
  refine br_f (by decide) ⟨pk_in 0 6 (by omega), nm_r (e' := 0) e2 (br_v2 h7 h7' (br_t rfl (br_line2 hl ho (fun a18' a20' e18 e18' => nm_e ?_))))⟩
  refine br_rel hK (fun a19' a20'' => br_grow2 (by rw [e18']; exact hl) (by rw [e18]; exact ho) pk_us ?_ h0 (fun a11' a12' a13' a14' a15' a16' a17' a20' hK' => ⟨pk_in 2 64 (by omega), ?_⟩))
  · rw [pk_un (by decide)]; exact h2
  · rw [e18, e18', e1, e1'] at hK'
    have e16 : a16' 2 = 2 := by
      rcases hK' with ⟨e, _⟩ | ⟨_, _, _, _, _, _, _, e⟩
      · exact absurd e (by decide)
      · exact e
    show post (a16' 2) _
    rw [e16]
    exact H _ _ _ _ _ _ _ _ _ _ _ _ _ _ _ _ _ _ _ _ _ _ _ _ hK'
end
end
section
section
/-- in range -/
def br_in (c : Int32) : Int32 := if c < 0 then 0 else if 9 < c then 0 else 1
/-- in range and without parts -/
def br_lf (c : Int32) : Int32 := if br_in c = 0 then 0 else if c < 3 then 1 else if c ≤ 6 then 0 else 1
/-- with one part -/
def br_on (c : Int32) : Int32 := if c = 3 then 1 else if c = 4 then 1 else 0
/-- what the law checks when all is called -/
def br_F (post : Int32 → St0 → Prop) (mc ms : Nat) (p0 p1 p2 r1 r2 r3 r4 r5 r6 : Int32) (kc ks : Nat) : Prop :=
  (((p0 < 0 → (wL_lawOf_70 post mc ms p0 p1 p2 r1 r2 r3 r4 r5 r6 kc ks)) ∧ (¬ p0 < 0 → (((9 < p0 → (wL_lawOf_70 post mc ms p0 p1 p2 r1 r2 r3 r4 r5 r6 kc ks)) ∧ (¬ 9 < p0 → (wL_lawOf_71 post mc ms p0 p1 p2 r1 r2 r3 r4 r5 r6 1 kc ks)))))))
theorem br_pre {post : Int32 → St0 → Prop} {mc ms kc ks : Nat} {s t i r1 r2 r3 r4 r5 r6 : Int32}
    (H : wL_lawOf_151 post mc ms s t i r1 r2 r3 r4 r5 r6 (br_in s) (br_in t) (br_lf s) (br_lf t) (br_on t) kc ks) : br_F post mc ms s t i r1 r2 r3 r4 r5 r6 kc ks := by
  have h134 : wL_lawOf_134 post mc ms s t i r1 r2 r3 r4 r5 r6 (br_in s) (br_in t) (br_lf s) (br_lf t) kc ks := by
    by_cases h3 : t = 3
    · rw [br_on, if_pos h3] at H
      exact br_t h3 H
    · by_cases h4 : t = 4
      · rw [br_on, if_neg h3, if_pos h4] at H
        exact br_f h3 (br_t h4 H)
      · rw [br_on, if_neg h3, if_neg h4] at H
        exact br_f h3 (br_f h4 H)
  have h111 : wL_lawOf_111 post mc ms s t i r1 r2 r3 r4 r5 r6 (br_in s) (br_in t) (br_lf s) kc ks := by
    by_cases h0 : br_in t = 0
    · rw [show br_lf t = 0 by rw [br_lf, if_pos h0]] at h134
      exact br_t h0 h134
    · by_cases h3 : t < 3
      · rw [show br_lf t = 1 by rw [br_lf, if_neg h0, if_pos h3]] at h134
        exact br_f h0 (br_t h3 h134)
      · by_cases h6 : t ≤ 6
        · rw [show br_lf t = 0 by rw [br_lf, if_neg h0, if_neg h3, if_pos h6]] at h134
          exact br_f h0 (br_f h3 (br_t h6 h134))
        · rw [show br_lf t = 1 by rw [br_lf, if_neg h0, if_neg h3, if_neg h6]] at h134
          exact br_f h0 (br_f h3 (br_f h6 h134))
  have h88 : wL_lawOf_88 post mc ms s t i r1 r2 r3 r4 r5 r6 (br_in s) (br_in t) kc ks := by
    by_cases h0 : br_in s = 0
    · rw [show br_lf s = 0 by rw [br_lf, if_pos h0]] at h111
      exact br_t h0 h111
    · by_cases h3 : s < 3
      · rw [show br_lf s = 1 by rw [br_lf, if_neg h0, if_pos h3]] at h111
        exact br_f h0 (br_t h3 h111)
      · by_cases h6 : s ≤ 6
        · rw [show br_lf s = 0 by rw [br_lf, if_neg h0, if_neg h3, if_pos h6]] at h111
          exact br_f h0 (br_f h3 (br_t h6 h111))
        · rw [show br_lf s = 1 by rw [br_lf, if_neg h0, if_neg h3, if_neg h6]] at h111
          exact br_f h0 (br_f h3 (br_f h6 h111))
  have h71 : wL_lawOf_71 post mc ms s t i r1 r2 r3 r4 r5 r6 (br_in s) kc ks := by
    by_cases h0 : t < 0
    · rw [show br_in t = 0 by rw [br_in, if_pos h0]] at h88
      exact br_t h0 h88
    · by_cases h9 : 9 < t
      · rw [show br_in t = 0 by rw [br_in, if_neg h0, if_pos h9]] at h88
        exact br_f h0 (br_t h9 h88)
      · rw [show br_in t = 1 by rw [br_in, if_neg h0, if_neg h9]] at h88
        exact br_f h0 (br_f h9 h88)
  by_cases h0 : s < 0
  · rw [show br_in s = 0 by rw [br_in, if_pos h0]] at h71
    exact br_t h0 h71
  · by_cases h9 : 9 < s
    · rw [show br_in s = 0 by rw [br_in, if_neg h0, if_pos h9]] at h71
      exact br_f h0 (br_t h9 h71)
    · rw [show br_in s = 1 by rw [br_in, if_neg h0, if_neg h9]] at h71
      exact br_f h0 (br_f h9 h71)
/-- the classes of a symbol: out of range, a constant, one part, two parts, a variable -/
theorem br_cls (c : Int32) : (c < 0 ∨ ¬ c ≤ 9) ∨ (c = 0 ∨ c = 1 ∨ c = 2) ∨ (c = 3 ∨ c = 4) ∨ (c = 5 ∨ c = 6) ∨ (c = 7 ∨ c = 8 ∨ c = 9) := by
  by_cases h0 : c < 0
  · exact Or.inl (Or.inl h0)
  · by_cases h9 : c ≤ 9
    · obtain ⟨j, hj, rfl⟩ := nI_of2 (M := 9) (n := 9) (by decide) h0 h9
      have h : j = 0 ∨ j = 1 ∨ j = 2 ∨ j = 3 ∨ j = 4 ∨ j = 5 ∨ j = 6 ∨ j = 7 ∨ j = 8 ∨ j = 9 := by omega
      rcases h with rfl | rfl | rfl | rfl | rfl | rfl | rfl | rfl | rfl | rfl <;> decide
    · exact Or.inl (Or.inr h9)
theorem br_k_out {c : Int32} (h : c < 0 ∨ ¬ c ≤ 9) : br_in c = 0 ∧ br_lf c = 0 ∧ br_on c = 0 := by
  have e : br_in c = 0 := by
    rcases h with h | h
    · rw [br_in, if_pos h]
    · rw [br_in, if_pos (Int32.not_le.mp h)]
      exact ite_self 0
  refine ⟨e, by rw [br_lf, if_pos e], ?_⟩
  have n3 : ¬ c = 3 := fun z => absurd h (by rw [z]; decide)
  have n4 : ¬ c = 4 := fun z => absurd h (by rw [z]; decide)
  rw [br_on, if_neg n3, if_neg n4]
theorem br_k_low {c : Int32} (h : c = 0 ∨ c = 1 ∨ c = 2) : br_in c = 1 ∧ br_lf c = 1 ∧ br_on c = 0 := by
  rcases h with rfl | rfl | rfl <;> decide
theorem br_k_one {c : Int32} (h : c = 3 ∨ c = 4) : br_in c = 1 ∧ br_lf c = 0 ∧ br_on c = 1 := by
  rcases h with rfl | rfl <;> decide
theorem br_k_two {c : Int32} (h : c = 5 ∨ c = 6) : br_in c = 1 ∧ br_lf c = 0 ∧ br_on c = 0 := by
  rcases h with rfl | rfl <;> decide
theorem br_k_var {c : Int32} (h : c = 7 ∨ c = 8 ∨ c = 9) : br_in c = 1 ∧ br_lf c = 1 ∧ br_on c = 0 := by
  rcases h with rfl | rfl | rfl <;> decide
theorem br_lt3 {c : Int32} (h : c = 0 ∨ c = 1 ∨ c = 2) : ¬ 3 ≤ c := by
  rcases h with rfl | rfl | rfl <;> decide
theorem br_ge3 {c : Int32} (h : c = 7 ∨ c = 8 ∨ c = 9) : 3 ≤ c := by
  rcases h with rfl | rfl | rfl <;> decide
end
section
variable {post : Int32 → St0 → Prop} {mc ms kc ks : Nat} {s t i : Int32}
theorem br_e_out_out (hp : post 1 ()) (hs : s < 0 ∨ ¬ s ≤ 9) (ht : t < 0 ∨ ¬ t ≤ 9) : br_F post mc ms s t i (-1) (-1) (-3) (br_sym 1 0 0 i) (-4) 0 kc ks := by
  refine br_pre ?_
  obtain ⟨s1, s2, _⟩ := br_k_out hs
  obtain ⟨t1, t2, t3⟩ := br_k_out ht
  rw [s1, s2, t1, t2, t3, br_sym]
  clear hs ht s1 s2 t1 t2 t3
  by_cases h0 : i = 0
  · rw [if_pos h0]
    repeat first | exact hp | refine br_t (by first | rfl | decide | assumption) ?_ | refine br_f (by first | decide | assumption) ?_
  · by_cases h1 : i = 1
    · rw [if_neg h0, if_neg (fun z => absurd z.2 (by decide))]
      repeat first | exact hp | refine br_t (by first | rfl | decide | assumption) ?_ | refine br_f (by first | decide | assumption) ?_
    · rw [if_neg h0, if_neg (fun z => h1 z.1)]
      repeat first | exact hp | refine br_t (by first | rfl | decide | assumption) ?_ | refine br_f (by first | decide | assumption) ?_
theorem br_e_out_low (hp : post 1 ()) (hs : s < 0 ∨ ¬ s ≤ 9) (ht : t = 0 ∨ t = 1 ∨ t = 2) : br_F post mc ms s t i (-1) (1) (1) (br_sym 1 t 0 i) (-4) 0 kc ks := by
  refine br_pre ?_
  obtain ⟨s1, s2, _⟩ := br_k_out hs
  obtain ⟨t1, t2, t3⟩ := br_k_low ht
  have qt : ¬ 3 ≤ t := br_lt3 ht
  rw [s1, s2, t1, t2, t3, br_sym]
  clear hs ht s1 s2 t1 t2 t3
  by_cases h0 : i = 0
  · rw [if_pos h0]
    repeat first | exact hp | refine br_t (by first | rfl | decide | assumption) ?_ | refine br_f (by first | decide | assumption) ?_
  · by_cases h1 : i = 1
    · rw [if_neg h0, if_neg (fun z => absurd z.2 (by decide))]
      repeat first | exact hp | refine br_t (by first | rfl | decide | assumption) ?_ | refine br_f (by first | decide | assumption) ?_
    · rw [if_neg h0, if_neg (fun z => h1 z.1)]
      repeat first | exact hp | refine br_t (by first | rfl | decide | assumption) ?_ | refine br_f (by first | decide | assumption) ?_
theorem br_e_out_one (hp : post 1 ()) (hs : s < 0 ∨ ¬ s ≤ 9) (ht : t = 3 ∨ t = 4) : br_F post mc ms s t i (-1) (-3) (-3) (br_sym 1 0 0 i) (-4) 0 kc ks := by
  refine br_pre ?_
  obtain ⟨s1, s2, _⟩ := br_k_out hs
  obtain ⟨t1, t2, t3⟩ := br_k_one ht
  rw [s1, s2, t1, t2, t3, br_sym]
  clear hs ht s1 s2 t1 t2 t3
  by_cases h0 : i = 0
  · rw [if_pos h0]
    repeat first | exact hp | refine br_t (by first | rfl | decide | assumption) ?_ | refine br_f (by first | decide | assumption) ?_
  · by_cases h1 : i = 1
    · rw [if_neg h0, if_neg (fun z => absurd z.2 (by decide))]
      repeat first | exact hp | refine br_t (by first | rfl | decide | assumption) ?_ | refine br_f (by first | decide | assumption) ?_
    · rw [if_neg h0, if_neg (fun z => h1 z.1)]
      repeat first | exact hp | refine br_t (by first | rfl | decide | assumption) ?_ | refine br_f (by first | decide | assumption) ?_
theorem br_e_out_two (hp : post 1 ()) (hs : s < 0 ∨ ¬ s ≤ 9) (ht : t = 5 ∨ t = 6) : br_F post mc ms s t i (-1) (-3) (-3) (br_sym 1 0 0 i) (-4) 0 kc ks := by
  refine br_pre ?_
  obtain ⟨s1, s2, _⟩ := br_k_out hs
  obtain ⟨t1, t2, t3⟩ := br_k_two ht
  rw [s1, s2, t1, t2, t3, br_sym]
  clear hs ht s1 s2 t1 t2 t3
  by_cases h0 : i = 0
  · rw [if_pos h0]
    repeat first | exact hp | refine br_t (by first | rfl | decide | assumption) ?_ | refine br_f (by first | decide | assumption) ?_
  · by_cases h1 : i = 1
    · rw [if_neg h0, if_neg (fun z => absurd z.2 (by decide))]
      repeat first | exact hp | refine br_t (by first | rfl | decide | assumption) ?_ | refine br_f (by first | decide | assumption) ?_
    · rw [if_neg h0, if_neg (fun z => h1 z.1)]
      repeat first | exact hp | refine br_t (by first | rfl | decide | assumption) ?_ | refine br_f (by first | decide | assumption) ?_
theorem br_e_out_var (hp : post 1 ()) (hs : s < 0 ∨ ¬ s ≤ 9) (ht : t = 7 ∨ t = 8 ∨ t = 9) : br_F post mc ms s t i (-1) (1) (-3) (br_sym 1 0 0 i) (-4) 0 kc ks := by
  refine br_pre ?_
  obtain ⟨s1, s2, _⟩ := br_k_out hs
  obtain ⟨t1, t2, t3⟩ := br_k_var ht
  have qt : 3 ≤ t := br_ge3 ht
  rw [s1, s2, t1, t2, t3, br_sym]
  clear hs ht s1 s2 t1 t2 t3
  by_cases h0 : i = 0
  · rw [if_pos h0]
    repeat first | exact hp | refine br_t (by first | rfl | decide | assumption) ?_ | refine br_f (by first | decide | assumption) ?_
  · by_cases h1 : i = 1
    · rw [if_neg h0, if_neg (fun z => absurd z.2 (by decide))]
      repeat first | exact hp | refine br_t (by first | rfl | decide | assumption) ?_ | refine br_f (by first | decide | assumption) ?_
    · rw [if_neg h0, if_neg (fun z => h1 z.1)]
      repeat first | exact hp | refine br_t (by first | rfl | decide | assumption) ?_ | refine br_f (by first | decide | assumption) ?_
theorem br_e_low_out (hp : post 1 ()) (hs : s = 0 ∨ s = 1 ∨ s = 2) (ht : t < 0 ∨ ¬ t ≤ 9) : br_F post mc ms s t i (1) (-1) (1) (br_sym 1 s 0 i) (-4) 0 kc ks := by
  refine br_pre ?_
  obtain ⟨s1, s2, _⟩ := br_k_low hs
  obtain ⟨t1, t2, t3⟩ := br_k_out ht
  have qs : ¬ 3 ≤ s := br_lt3 hs
  rw [s1, s2, t1, t2, t3, br_sym]
  clear hs ht s1 s2 t1 t2 t3
  by_cases h0 : i = 0
  · rw [if_pos h0]
    repeat first | exact hp | refine br_t (by first | rfl | decide | assumption) ?_ | refine br_f (by first | decide | assumption) ?_
  · by_cases h1 : i = 1
    · rw [if_neg h0, if_neg (fun z => absurd z.2 (by decide))]
      repeat first | exact hp | refine br_t (by first | rfl | decide | assumption) ?_ | refine br_f (by first | decide | assumption) ?_
    · rw [if_neg h0, if_neg (fun z => h1 z.1)]
      repeat first | exact hp | refine br_t (by first | rfl | decide | assumption) ?_ | refine br_f (by first | decide | assumption) ?_
theorem br_e_low_low (hp : post 1 ()) (hs : s = 0 ∨ s = 1 ∨ s = 2) (ht : t = 0 ∨ t = 1 ∨ t = 2) : br_F post mc ms s t i (1) (2) (1) (br_sym 1 t 0 i) (-4) 0 kc ks := by
  refine br_pre ?_
  obtain ⟨s1, s2, _⟩ := br_k_low hs
  obtain ⟨t1, t2, t3⟩ := br_k_low ht
  have qs : ¬ 3 ≤ s := br_lt3 hs
  have qt : ¬ 3 ≤ t := br_lt3 ht
  rw [s1, s2, t1, t2, t3, br_sym]
  clear hs ht s1 s2 t1 t2 t3
  by_cases h0 : i = 0
  · rw [if_pos h0]
    repeat first | exact hp | refine br_t (by first | rfl | decide | assumption) ?_ | refine br_f (by first | decide | assumption) ?_
  · by_cases h1 : i = 1
    · rw [if_neg h0, if_neg (fun z => absurd z.2 (by decide))]
      repeat first | exact hp | refine br_t (by first | rfl | decide | assumption) ?_ | refine br_f (by first | decide | assumption) ?_
    · rw [if_neg h0, if_neg (fun z => h1 z.1)]
      repeat first | exact hp | refine br_t (by first | rfl | decide | assumption) ?_ | refine br_f (by first | decide | assumption) ?_
theorem br_e_low_one (hp : post 1 ()) (hs : s = 0 ∨ s = 1 ∨ s = 2) (ht : t = 3 ∨ t = 4) : br_F post mc ms s t i (1) (1) (2) (br_sym 2 t s i) (-4) 0 kc ks := by
  refine br_pre ?_
  obtain ⟨s1, s2, _⟩ := br_k_low hs
  obtain ⟨t1, t2, t3⟩ := br_k_one ht
  have qs : ¬ 3 ≤ s := br_lt3 hs
  rw [s1, s2, t1, t2, t3, br_sym]
  clear hs ht s1 s2 t1 t2 t3
  by_cases h0 : i = 0
  · rw [if_pos h0]
    repeat first | exact hp | refine br_t (by first | rfl | decide | assumption) ?_ | refine br_f (by first | decide | assumption) ?_
  · by_cases h1 : i = 1
    · rw [if_neg h0, if_pos ⟨h1, rfl⟩]
      repeat first | exact hp | refine br_t (by first | rfl | decide | assumption) ?_ | refine br_f (by first | decide | assumption) ?_
    · rw [if_neg h0, if_neg (fun z => h1 z.1)]
      repeat first | exact hp | refine br_t (by first | rfl | decide | assumption) ?_ | refine br_f (by first | decide | assumption) ?_
theorem br_e_low_two (hp : post 1 ()) (hs : s = 0 ∨ s = 1 ∨ s = 2) (ht : t = 5 ∨ t = 6) : br_F post mc ms s t i (1) (-3) (1) (br_sym 1 s 0 i) (-4) 0 kc ks := by
  refine br_pre ?_
  obtain ⟨s1, s2, _⟩ := br_k_low hs
  obtain ⟨t1, t2, t3⟩ := br_k_two ht
  have qs : ¬ 3 ≤ s := br_lt3 hs
  rw [s1, s2, t1, t2, t3, br_sym]
  clear hs ht s1 s2 t1 t2 t3
  by_cases h0 : i = 0
  · rw [if_pos h0]
    repeat first | exact hp | refine br_t (by first | rfl | decide | assumption) ?_ | refine br_f (by first | decide | assumption) ?_
  · by_cases h1 : i = 1
    · rw [if_neg h0, if_neg (fun z => absurd z.2 (by decide))]
      repeat first | exact hp | refine br_t (by first | rfl | decide | assumption) ?_ | refine br_f (by first | decide | assumption) ?_
    · rw [if_neg h0, if_neg (fun z => h1 z.1)]
      repeat first | exact hp | refine br_t (by first | rfl | decide | assumption) ?_ | refine br_f (by first | decide | assumption) ?_
theorem br_e_low_var (hp : post 1 ()) (hs : s = 0 ∨ s = 1 ∨ s = 2) (ht : t = 7 ∨ t = 8 ∨ t = 9) : br_F post mc ms s t i (1) (2) (-3) (br_sym 1 0 0 i) (-4) 0 kc ks := by
  refine br_pre ?_
  obtain ⟨s1, s2, _⟩ := br_k_low hs
  obtain ⟨t1, t2, t3⟩ := br_k_var ht
  have qs : ¬ 3 ≤ s := br_lt3 hs
  have qt : 3 ≤ t := br_ge3 ht
  rw [s1, s2, t1, t2, t3, br_sym]
  clear hs ht s1 s2 t1 t2 t3
  by_cases h0 : i = 0
  · rw [if_pos h0]
    repeat first | exact hp | refine br_t (by first | rfl | decide | assumption) ?_ | refine br_f (by first | decide | assumption) ?_
  · by_cases h1 : i = 1
    · rw [if_neg h0, if_neg (fun z => absurd z.2 (by decide))]
      repeat first | exact hp | refine br_t (by first | rfl | decide | assumption) ?_ | refine br_f (by first | decide | assumption) ?_
    · rw [if_neg h0, if_neg (fun z => h1 z.1)]
      repeat first | exact hp | refine br_t (by first | rfl | decide | assumption) ?_ | refine br_f (by first | decide | assumption) ?_
theorem br_e_one_out (hp : post 1 ()) (hs : s = 3 ∨ s = 4) (ht : t < 0 ∨ ¬ t ≤ 9) : br_F post mc ms s t i (-3) (-1) (-3) (br_sym 1 0 0 i) (-4) 0 kc ks := by
  refine br_pre ?_
  obtain ⟨s1, s2, _⟩ := br_k_one hs
  obtain ⟨t1, t2, t3⟩ := br_k_out ht
  rw [s1, s2, t1, t2, t3, br_sym]
  clear hs ht s1 s2 t1 t2 t3
  by_cases h0 : i = 0
  · rw [if_pos h0]
    repeat first | exact hp | refine br_t (by first | rfl | decide | assumption) ?_ | refine br_f (by first | decide | assumption) ?_
  · by_cases h1 : i = 1
    · rw [if_neg h0, if_neg (fun z => absurd z.2 (by decide))]
      repeat first | exact hp | refine br_t (by first | rfl | decide | assumption) ?_ | refine br_f (by first | decide | assumption) ?_
    · rw [if_neg h0, if_neg (fun z => h1 z.1)]
      repeat first | exact hp | refine br_t (by first | rfl | decide | assumption) ?_ | refine br_f (by first | decide | assumption) ?_
theorem br_e_one_low (hp : post 1 ()) (hs : s = 3 ∨ s = 4) (ht : t = 0 ∨ t = 1 ∨ t = 2) : br_F post mc ms s t i (-3) (1) (1) (br_sym 1 t 0 i) (-4) 0 kc ks := by
  refine br_pre ?_
  obtain ⟨s1, s2, _⟩ := br_k_one hs
  obtain ⟨t1, t2, t3⟩ := br_k_low ht
  have qt : ¬ 3 ≤ t := br_lt3 ht
  rw [s1, s2, t1, t2, t3, br_sym]
  clear hs ht s1 s2 t1 t2 t3
  by_cases h0 : i = 0
  · rw [if_pos h0]
    repeat first | exact hp | refine br_t (by first | rfl | decide | assumption) ?_ | refine br_f (by first | decide | assumption) ?_
  · by_cases h1 : i = 1
    · rw [if_neg h0, if_neg (fun z => absurd z.2 (by decide))]
      repeat first | exact hp | refine br_t (by first | rfl | decide | assumption) ?_ | refine br_f (by first | decide | assumption) ?_
    · rw [if_neg h0, if_neg (fun z => h1 z.1)]
      repeat first | exact hp | refine br_t (by first | rfl | decide | assumption) ?_ | refine br_f (by first | decide | assumption) ?_
theorem br_e_one_one (hp : post 1 ()) (hs : s = 3 ∨ s = 4) (ht : t = 3 ∨ t = 4) : br_F post mc ms s t i (-3) (-3) (-3) (br_sym 1 0 0 i) (-4) 0 kc ks := by
  refine br_pre ?_
  obtain ⟨s1, s2, _⟩ := br_k_one hs
  obtain ⟨t1, t2, t3⟩ := br_k_one ht
  rw [s1, s2, t1, t2, t3, br_sym]
  clear hs ht s1 s2 t1 t2 t3
  by_cases h0 : i = 0
  · rw [if_pos h0]
    repeat first | exact hp | refine br_t (by first | rfl | decide | assumption) ?_ | refine br_f (by first | decide | assumption) ?_
  · by_cases h1 : i = 1
    · rw [if_neg h0, if_neg (fun z => absurd z.2 (by decide))]
      repeat first | exact hp | refine br_t (by first | rfl | decide | assumption) ?_ | refine br_f (by first | decide | assumption) ?_
    · rw [if_neg h0, if_neg (fun z => h1 z.1)]
      repeat first | exact hp | refine br_t (by first | rfl | decide | assumption) ?_ | refine br_f (by first | decide | assumption) ?_
theorem br_e_one_two (hp : post 1 ()) (hs : s = 3 ∨ s = 4) (ht : t = 5 ∨ t = 6) : br_F post mc ms s t i (-3) (-3) (-3) (br_sym 1 0 0 i) (-4) 0 kc ks := by
  refine br_pre ?_
  obtain ⟨s1, s2, _⟩ := br_k_one hs
  obtain ⟨t1, t2, t3⟩ := br_k_two ht
  rw [s1, s2, t1, t2, t3, br_sym]
  clear hs ht s1 s2 t1 t2 t3
  by_cases h0 : i = 0
  · rw [if_pos h0]
    repeat first | exact hp | refine br_t (by first | rfl | decide | assumption) ?_ | refine br_f (by first | decide | assumption) ?_
  · by_cases h1 : i = 1
    · rw [if_neg h0, if_neg (fun z => absurd z.2 (by decide))]
      repeat first | exact hp | refine br_t (by first | rfl | decide | assumption) ?_ | refine br_f (by first | decide | assumption) ?_
    · rw [if_neg h0, if_neg (fun z => h1 z.1)]
      repeat first | exact hp | refine br_t (by first | rfl | decide | assumption) ?_ | refine br_f (by first | decide | assumption) ?_
theorem br_e_one_var (hp : post 1 ()) (hs : s = 3 ∨ s = 4) (ht : t = 7 ∨ t = 8 ∨ t = 9) : br_F post mc ms s t i (-3) (1) (-3) (br_sym 1 0 0 i) (-4) 0 kc ks := by
  refine br_pre ?_
  obtain ⟨s1, s2, _⟩ := br_k_one hs
  obtain ⟨t1, t2, t3⟩ := br_k_var ht
  have qt : 3 ≤ t := br_ge3 ht
  rw [s1, s2, t1, t2, t3, br_sym]
  clear hs ht s1 s2 t1 t2 t3
  by_cases h0 : i = 0
  · rw [if_pos h0]
    repeat first | exact hp | refine br_t (by first | rfl | decide | assumption) ?_ | refine br_f (by first | decide | assumption) ?_
  · by_cases h1 : i = 1
    · rw [if_neg h0, if_neg (fun z => absurd z.2 (by decide))]
      repeat first | exact hp | refine br_t (by first | rfl | decide | assumption) ?_ | refine br_f (by first | decide | assumption) ?_
    · rw [if_neg h0, if_neg (fun z => h1 z.1)]
      repeat first | exact hp | refine br_t (by first | rfl | decide | assumption) ?_ | refine br_f (by first | decide | assumption) ?_
theorem br_e_two_out (hp : post 1 ()) (hs : s = 5 ∨ s = 6) (ht : t < 0 ∨ ¬ t ≤ 9) : br_F post mc ms s t i (-3) (-1) (-3) (br_sym 1 0 0 i) (-4) 0 kc ks := by
  refine br_pre ?_
  obtain ⟨s1, s2, _⟩ := br_k_two hs
  obtain ⟨t1, t2, t3⟩ := br_k_out ht
  rw [s1, s2, t1, t2, t3, br_sym]
  clear hs ht s1 s2 t1 t2 t3
  by_cases h0 : i = 0
  · rw [if_pos h0]
    repeat first | exact hp | refine br_t (by first | rfl | decide | assumption) ?_ | refine br_f (by first | decide | assumption) ?_
  · by_cases h1 : i = 1
    · rw [if_neg h0, if_neg (fun z => absurd z.2 (by decide))]
      repeat first | exact hp | refine br_t (by first | rfl | decide | assumption) ?_ | refine br_f (by first | decide | assumption) ?_
    · rw [if_neg h0, if_neg (fun z => h1 z.1)]
      repeat first | exact hp | refine br_t (by first | rfl | decide | assumption) ?_ | refine br_f (by first | decide | assumption) ?_
theorem br_e_two_low (hp : post 1 ()) (hs : s = 5 ∨ s = 6) (ht : t = 0 ∨ t = 1 ∨ t = 2) : br_F post mc ms s t i (-3) (1) (1) (br_sym 1 t 0 i) (-4) 0 kc ks := by
  refine br_pre ?_
  obtain ⟨s1, s2, _⟩ := br_k_two hs
  obtain ⟨t1, t2, t3⟩ := br_k_low ht
  have qt : ¬ 3 ≤ t := br_lt3 ht
  rw [s1, s2, t1, t2, t3, br_sym]
  clear hs ht s1 s2 t1 t2 t3
  by_cases h0 : i = 0
  · rw [if_pos h0]
    repeat first | exact hp | refine br_t (by first | rfl | decide | assumption) ?_ | refine br_f (by first | decide | assumption) ?_
  · by_cases h1 : i = 1
    · rw [if_neg h0, if_neg (fun z => absurd z.2 (by decide))]
      repeat first | exact hp | refine br_t (by first | rfl | decide | assumption) ?_ | refine br_f (by first | decide | assumption) ?_
    · rw [if_neg h0, if_neg (fun z => h1 z.1)]
      repeat first | exact hp | refine br_t (by first | rfl | decide | assumption) ?_ | refine br_f (by first | decide | assumption) ?_
theorem br_e_two_one (hp : post 1 ()) (hs : s = 5 ∨ s = 6) (ht : t = 3 ∨ t = 4) : br_F post mc ms s t i (-3) (-3) (-3) (br_sym 1 0 0 i) (-4) 0 kc ks := by
  refine br_pre ?_
  obtain ⟨s1, s2, _⟩ := br_k_two hs
  obtain ⟨t1, t2, t3⟩ := br_k_one ht
  rw [s1, s2, t1, t2, t3, br_sym]
  clear hs ht s1 s2 t1 t2 t3
  by_cases h0 : i = 0
  · rw [if_pos h0]
    repeat first | exact hp | refine br_t (by first | rfl | decide | assumption) ?_ | refine br_f (by first | decide | assumption) ?_
  · by_cases h1 : i = 1
    · rw [if_neg h0, if_neg (fun z => absurd z.2 (by decide))]
      repeat first | exact hp | refine br_t (by first | rfl | decide | assumption) ?_ | refine br_f (by first | decide | assumption) ?_
    · rw [if_neg h0, if_neg (fun z => h1 z.1)]
      repeat first | exact hp | refine br_t (by first | rfl | decide | assumption) ?_ | refine br_f (by first | decide | assumption) ?_
theorem br_e_two_two (hp : post 1 ()) (hs : s = 5 ∨ s = 6) (ht : t = 5 ∨ t = 6) : br_F post mc ms s t i (-3) (-3) (-3) (br_sym 1 0 0 i) (-4) 0 kc ks := by
  refine br_pre ?_
  obtain ⟨s1, s2, _⟩ := br_k_two hs
  obtain ⟨t1, t2, t3⟩ := br_k_two ht
  rw [s1, s2, t1, t2, t3, br_sym]
  clear hs ht s1 s2 t1 t2 t3
  by_cases h0 : i = 0
  · rw [if_pos h0]
    repeat first | exact hp | refine br_t (by first | rfl | decide | assumption) ?_ | refine br_f (by first | decide | assumption) ?_
  · by_cases h1 : i = 1
    · rw [if_neg h0, if_neg (fun z => absurd z.2 (by decide))]
      repeat first | exact hp | refine br_t (by first | rfl | decide | assumption) ?_ | refine br_f (by first | decide | assumption) ?_
    · rw [if_neg h0, if_neg (fun z => h1 z.1)]
      repeat first | exact hp | refine br_t (by first | rfl | decide | assumption) ?_ | refine br_f (by first | decide | assumption) ?_
theorem br_e_two_var (hp : post 1 ()) (hs : s = 5 ∨ s = 6) (ht : t = 7 ∨ t = 8 ∨ t = 9) : br_F post mc ms s t i (-3) (1) (-3) (br_sym 1 0 0 i) (-4) 0 kc ks := by
  refine br_pre ?_
  obtain ⟨s1, s2, _⟩ := br_k_two hs
  obtain ⟨t1, t2, t3⟩ := br_k_var ht
  have qt : 3 ≤ t := br_ge3 ht
  rw [s1, s2, t1, t2, t3, br_sym]
  clear hs ht s1 s2 t1 t2 t3
  by_cases h0 : i = 0
  · rw [if_pos h0]
    repeat first | exact hp | refine br_t (by first | rfl | decide | assumption) ?_ | refine br_f (by first | decide | assumption) ?_
  · by_cases h1 : i = 1
    · rw [if_neg h0, if_neg (fun z => absurd z.2 (by decide))]
      repeat first | exact hp | refine br_t (by first | rfl | decide | assumption) ?_ | refine br_f (by first | decide | assumption) ?_
    · rw [if_neg h0, if_neg (fun z => h1 z.1)]
      repeat first | exact hp | refine br_t (by first | rfl | decide | assumption) ?_ | refine br_f (by first | decide | assumption) ?_
theorem br_e_var_out (hp : post 1 ()) (hs : s = 7 ∨ s = 8 ∨ s = 9) (ht : t < 0 ∨ ¬ t ≤ 9) : br_F post mc ms s t i (1) (-1) (-3) (br_sym 1 0 0 i) (-4) 0 kc ks := by
  refine br_pre ?_
  obtain ⟨s1, s2, _⟩ := br_k_var hs
  obtain ⟨t1, t2, t3⟩ := br_k_out ht
  have qs : 3 ≤ s := br_ge3 hs
  rw [s1, s2, t1, t2, t3, br_sym]
  clear hs ht s1 s2 t1 t2 t3
  by_cases h0 : i = 0
  · rw [if_pos h0]
    repeat first | exact hp | refine br_t (by first | rfl | decide | assumption) ?_ | refine br_f (by first | decide | assumption) ?_
  · by_cases h1 : i = 1
    · rw [if_neg h0, if_neg (fun z => absurd z.2 (by decide))]
      repeat first | exact hp | refine br_t (by first | rfl | decide | assumption) ?_ | refine br_f (by first | decide | assumption) ?_
    · rw [if_neg h0, if_neg (fun z => h1 z.1)]
      repeat first | exact hp | refine br_t (by first | rfl | decide | assumption) ?_ | refine br_f (by first | decide | assumption) ?_
theorem br_e_var_low (hp : post 1 ()) (hs : s = 7 ∨ s = 8 ∨ s = 9) (ht : t = 0 ∨ t = 1 ∨ t = 2) : br_F post mc ms s t i (1) (2) (1) (br_sym 1 t 0 i) (-4) 0 kc ks := by
  refine br_pre ?_
  obtain ⟨s1, s2, _⟩ := br_k_var hs
  obtain ⟨t1, t2, t3⟩ := br_k_low ht
  have qs : 3 ≤ s := br_ge3 hs
  have qt : ¬ 3 ≤ t := br_lt3 ht
  rw [s1, s2, t1, t2, t3, br_sym]
  clear hs ht s1 s2 t1 t2 t3
  by_cases h0 : i = 0
  · rw [if_pos h0]
    repeat first | exact hp | refine br_t (by first | rfl | decide | assumption) ?_ | refine br_f (by first | decide | assumption) ?_
  · by_cases h1 : i = 1
    · rw [if_neg h0, if_neg (fun z => absurd z.2 (by decide))]
      repeat first | exact hp | refine br_t (by first | rfl | decide | assumption) ?_ | refine br_f (by first | decide | assumption) ?_
    · rw [if_neg h0, if_neg (fun z => h1 z.1)]
      repeat first | exact hp | refine br_t (by first | rfl | decide | assumption) ?_ | refine br_f (by first | decide | assumption) ?_
theorem br_e_var_one (hp : post 1 ()) (hs : s = 7 ∨ s = 8 ∨ s = 9) (ht : t = 3 ∨ t = 4) : br_F post mc ms s t i (1) (1) (-3) (br_sym 1 0 0 i) (-4) 0 kc ks := by
  refine br_pre ?_
  obtain ⟨s1, s2, _⟩ := br_k_var hs
  obtain ⟨t1, t2, t3⟩ := br_k_one ht
  have qs : 3 ≤ s := br_ge3 hs
  rw [s1, s2, t1, t2, t3, br_sym]
  clear hs ht s1 s2 t1 t2 t3
  by_cases h0 : i = 0
  · rw [if_pos h0]
    repeat first | exact hp | refine br_t (by first | rfl | decide | assumption) ?_ | refine br_f (by first | decide | assumption) ?_
  · by_cases h1 : i = 1
    · rw [if_neg h0, if_neg (fun z => absurd z.2 (by decide))]
      repeat first | exact hp | refine br_t (by first | rfl | decide | assumption) ?_ | refine br_f (by first | decide | assumption) ?_
    · rw [if_neg h0, if_neg (fun z => h1 z.1)]
      repeat first | exact hp | refine br_t (by first | rfl | decide | assumption) ?_ | refine br_f (by first | decide | assumption) ?_
theorem br_e_var_two (hp : post 1 ()) (hs : s = 7 ∨ s = 8 ∨ s = 9) (ht : t = 5 ∨ t = 6) : br_F post mc ms s t i (1) (-3) (-3) (br_sym 1 0 0 i) (-4) 0 kc ks := by
  refine br_pre ?_
  obtain ⟨s1, s2, _⟩ := br_k_var hs
  obtain ⟨t1, t2, t3⟩ := br_k_two ht
  have qs : 3 ≤ s := br_ge3 hs
  rw [s1, s2, t1, t2, t3, br_sym]
  clear hs ht s1 s2 t1 t2 t3
  by_cases h0 : i = 0
  · rw [if_pos h0]
    repeat first | exact hp | refine br_t (by first | rfl | decide | assumption) ?_ | refine br_f (by first | decide | assumption) ?_
  · by_cases h1 : i = 1
    · rw [if_neg h0, if_neg (fun z => absurd z.2 (by decide))]
      repeat first | exact hp | refine br_t (by first | rfl | decide | assumption) ?_ | refine br_f (by first | decide | assumption) ?_
    · rw [if_neg h0, if_neg (fun z => h1 z.1)]
      repeat first | exact hp | refine br_t (by first | rfl | decide | assumption) ?_ | refine br_f (by first | decide | assumption) ?_
theorem br_e_var_var (hp : post 1 ()) (hs : s = 7 ∨ s = 8 ∨ s = 9) (ht : t = 7 ∨ t = 8 ∨ t = 9) : br_F post mc ms s t i (1) (2) (-3) (br_sym 1 0 0 i) (-4) 0 kc ks := by
  refine br_pre ?_
  obtain ⟨s1, s2, _⟩ := br_k_var hs
  obtain ⟨t1, t2, t3⟩ := br_k_var ht
  have qs : 3 ≤ s := br_ge3 hs
  have qt : 3 ≤ t := br_ge3 ht
  rw [s1, s2, t1, t2, t3, br_sym]
  clear hs ht s1 s2 t1 t2 t3
  by_cases h0 : i = 0
  · rw [if_pos h0]
    repeat first | exact hp | refine br_t (by first | rfl | decide | assumption) ?_ | refine br_f (by first | decide | assumption) ?_
  · by_cases h1 : i = 1
    · rw [if_neg h0, if_neg (fun z => absurd z.2 (by decide))]
      repeat first | exact hp | refine br_t (by first | rfl | decide | assumption) ?_ | refine br_f (by first | decide | assumption) ?_
    · rw [if_neg h0, if_neg (fun z => h1 z.1)]
      repeat first | exact hp | refine br_t (by first | rfl | decide | assumption) ?_ | refine br_f (by first | decide | assumption) ?_
end
end
section
theorem br_okL {c : Int32} (h : c = 0 ∨ c = 1 ∨ c = 2) : ¬ c < 0 ∧ c ≤ 9 ∧ br_leaf c := by
  rcases h with rfl | rfl | rfl <;> exact ⟨by decide, by decide, by decide, by decide, by decide, by decide⟩
theorem br_okV {c : Int32} (h : c = 7 ∨ c = 8 ∨ c = 9) : ¬ c < 0 ∧ c ≤ 9 ∧ br_leaf c := by
  rcases h with rfl | rfl | rfl <;> exact ⟨by decide, by decide, by decide, by decide, by decide, by decide⟩
theorem br_law {post : Int32 → St0 → Prop} {s t i n : Int32} (hp : post 1 ()) : wpL_lawOf post 22 1033 () s t i n := by
  refine ⟨by decide, by decide, 21, 1006, by decide, by decide, br_init (fun a1 a2 a3 a4 a5 a6 a7 a8 a9 a10 a11 a12 a13 a14 a15 a16 a17 a18 a19 a20 a21 h2 h0 hK => ?_)⟩
  rcases br_cls s with hs | hs | hs | hs | hs
  · refine br_b_out hs ?_
    rcases br_cls t with ht | ht | ht | ht | ht
    · refine br_b_out ht ?_
      exact br_s_no (br_symbol (sz := 1) hK (fun _ _ => br_fits (sz := 1) hK (fun _ _ => br_run (sz := 1) hK (fun _ _ => br_e_out_out hp hs ht))))
    · refine br_b_leaf (k := 0) (j := 0) (br_okL ht).1 (br_okL ht).2.1 (br_okL ht).2.2 (by omega) (by omega) ?_
      exact br_s_1 (k := 0) (j := 0) (c := t) (by omega) (by omega) pk_us pk_us ht h2 h0 hK (fun _ _ _ _ _ _ _ _ _ _ _ _ _ _ _ _ _ _ _ _ _ _ _ _ hK' => br_symbol (sz := 1) hK' (fun _ _ => br_fits (sz := 1) hK' (fun _ _ => br_run (sz := 1) hK' (fun _ _ => br_e_out_low hp hs ht))))
    · refine br_b_one0 (k := 0) ht (by omega) ?_
      exact br_s_no (br_symbol (sz := 1) hK (fun _ _ => br_fits (sz := 1) hK (fun _ _ => br_run (sz := 1) hK (fun _ _ => br_e_out_one hp hs ht))))
    · refine br_b_two (k := 0) (j := 0) ht (by omega) (by omega) ?_
      exact br_s_no (br_symbol (sz := 1) hK (fun _ _ => br_fits (sz := 1) hK (fun _ _ => br_run (sz := 1) hK (fun _ _ => br_e_out_two hp hs ht))))
    · refine br_b_leaf (k := 0) (j := 0) (br_okV ht).1 (br_okV ht).2.1 (br_okV ht).2.2 (by omega) (by omega) ?_
      exact br_s_v1 (k := 0) (j := 0) (by omega) (by omega) pk_us (by rw [pk_us]; exact ht) (br_symbol (sz := 1) hK (fun _ _ => br_fits (sz := 1) hK (fun _ _ => br_run (sz := 1) hK (fun _ _ => br_e_out_var hp hs ht))))
  · refine br_b_leaf (k := 0) (j := 0) (br_okL hs).1 (br_okL hs).2.1 (br_okL hs).2.2 (by omega) (by omega) ?_
    rcases br_cls t with ht | ht | ht | ht | ht
    · refine br_b_out ht ?_
      exact br_s_1 (k := 0) (j := 0) (c := s) (by omega) (by omega) pk_us pk_us hs h2 h0 hK (fun _ _ _ _ _ _ _ _ _ _ _ _ _ _ _ _ _ _ _ _ _ _ _ _ hK' => br_symbol (sz := 1) hK' (fun _ _ => br_fits (sz := 1) hK' (fun _ _ => br_run (sz := 1) hK' (fun _ _ => br_e_low_out hp hs ht))))
    · refine br_b_leaf (k := 1) (j := 1) (br_okL ht).1 (br_okL ht).2.1 (br_okL ht).2.2 (by omega) (by omega) ?_
      exact br_s_1 (k := 1) (j := 1) (c := t) (by omega) (by omega) pk_us pk_us ht h2 h0 hK (fun _ _ _ _ _ _ _ _ _ _ _ _ _ _ _ _ _ _ _ _ _ _ _ _ hK' => br_symbol (sz := 1) hK' (fun _ _ => br_fits (sz := 1) hK' (fun _ _ => br_run (sz := 1) hK' (fun _ _ => br_e_low_low hp hs ht))))
    · refine br_b_one (k := 1) (j := 0) ht (by omega) (by omega) ?_
      exact br_s_2 (c := s) (d := t) pk_us (by rw [pk_un (by decide), pk_us]) pk_us hs ht h2 h0 hK (fun _ _ _ _ _ _ _ _ _ _ _ _ _ _ _ _ _ _ _ _ _ _ _ _ hK' => br_symbol (sz := 2) hK' (fun _ _ => br_fits (sz := 2) hK' (fun _ _ => br_run (sz := 2) hK' (fun _ _ => br_e_low_one hp hs ht))))
    · refine br_b_two (k := 1) (j := 1) ht (by omega) (by omega) ?_
      exact br_s_1 (k := 0) (j := 0) (c := s) (by omega) (by omega) pk_us pk_us hs h2 h0 hK (fun _ _ _ _ _ _ _ _ _ _ _ _ _ _ _ _ _ _ _ _ _ _ _ _ hK' => br_symbol (sz := 1) hK' (fun _ _ => br_fits (sz := 1) hK' (fun _ _ => br_run (sz := 1) hK' (fun _ _ => br_e_low_two hp hs ht))))
    · refine br_b_leaf (k := 1) (j := 1) (br_okV ht).1 (br_okV ht).2.1 (br_okV ht).2.2 (by omega) (by omega) ?_
      exact br_s_v1 (k := 1) (j := 1) (by omega) (by omega) pk_us (by rw [pk_us]; exact ht) (br_symbol (sz := 1) hK (fun _ _ => br_fits (sz := 1) hK (fun _ _ => br_run (sz := 1) hK (fun _ _ => br_e_low_var hp hs ht))))
  · refine br_b_one0 (k := 0) hs (by omega) ?_
    rcases br_cls t with ht | ht | ht | ht | ht
    · refine br_b_out ht ?_
      exact br_s_no (br_symbol (sz := 1) hK (fun _ _ => br_fits (sz := 1) hK (fun _ _ => br_run (sz := 1) hK (fun _ _ => br_e_one_out hp hs ht))))
    · refine br_b_leaf (k := 0) (j := 0) (br_okL ht).1 (br_okL ht).2.1 (br_okL ht).2.2 (by omega) (by omega) ?_
      exact br_s_1 (k := 0) (j := 0) (c := t) (by omega) (by omega) pk_us pk_us ht h2 h0 hK (fun _ _ _ _ _ _ _ _ _ _ _ _ _ _ _ _ _ _ _ _ _ _ _ _ hK' => br_symbol (sz := 1) hK' (fun _ _ => br_fits (sz := 1) hK' (fun _ _ => br_run (sz := 1) hK' (fun _ _ => br_e_one_low hp hs ht))))
    · refine br_b_one0 (k := 0) ht (by omega) ?_
      exact br_s_no (br_symbol (sz := 1) hK (fun _ _ => br_fits (sz := 1) hK (fun _ _ => br_run (sz := 1) hK (fun _ _ => br_e_one_one hp hs ht))))
    · refine br_b_two (k := 0) (j := 0) ht (by omega) (by omega) ?_
      exact br_s_no (br_symbol (sz := 1) hK (fun _ _ => br_fits (sz := 1) hK (fun _ _ => br_run (sz := 1) hK (fun _ _ => br_e_one_two hp hs ht))))
    · refine br_b_leaf (k := 0) (j := 0) (br_okV ht).1 (br_okV ht).2.1 (br_okV ht).2.2 (by omega) (by omega) ?_
      exact br_s_v1 (k := 0) (j := 0) (by omega) (by omega) pk_us (by rw [pk_us]; exact ht) (br_symbol (sz := 1) hK (fun _ _ => br_fits (sz := 1) hK (fun _ _ => br_run (sz := 1) hK (fun _ _ => br_e_one_var hp hs ht))))
  · refine br_b_two (k := 0) (j := 0) hs (by omega) (by omega) ?_
    rcases br_cls t with ht | ht | ht | ht | ht
    · refine br_b_out ht ?_
      exact br_s_no (br_symbol (sz := 1) hK (fun _ _ => br_fits (sz := 1) hK (fun _ _ => br_run (sz := 1) hK (fun _ _ => br_e_two_out hp hs ht))))
    · refine br_b_leaf (k := 0) (j := 0) (br_okL ht).1 (br_okL ht).2.1 (br_okL ht).2.2 (by omega) (by omega) ?_
      exact br_s_1 (k := 0) (j := 0) (c := t) (by omega) (by omega) pk_us pk_us ht h2 h0 hK (fun _ _ _ _ _ _ _ _ _ _ _ _ _ _ _ _ _ _ _ _ _ _ _ _ hK' => br_symbol (sz := 1) hK' (fun _ _ => br_fits (sz := 1) hK' (fun _ _ => br_run (sz := 1) hK' (fun _ _ => br_e_two_low hp hs ht))))
    · refine br_b_one0 (k := 0) ht (by omega) ?_
      exact br_s_no (br_symbol (sz := 1) hK (fun _ _ => br_fits (sz := 1) hK (fun _ _ => br_run (sz := 1) hK (fun _ _ => br_e_two_one hp hs ht))))
    · refine br_b_two (k := 0) (j := 0) ht (by omega) (by omega) ?_
      exact br_s_no (br_symbol (sz := 1) hK (fun _ _ => br_fits (sz := 1) hK (fun _ _ => br_run (sz := 1) hK (fun _ _ => br_e_two_two hp hs ht))))
    · refine br_b_leaf (k := 0) (j := 0) (br_okV ht).1 (br_okV ht).2.1 (br_okV ht).2.2 (by omega) (by omega) ?_
      exact br_s_v1 (k := 0) (j := 0) (by omega) (by omega) pk_us (by rw [pk_us]; exact ht) (br_symbol (sz := 1) hK (fun _ _ => br_fits (sz := 1) hK (fun _ _ => br_run (sz := 1) hK (fun _ _ => br_e_two_var hp hs ht))))
  · refine br_b_leaf (k := 0) (j := 0) (br_okV hs).1 (br_okV hs).2.1 (br_okV hs).2.2 (by omega) (by omega) ?_
    rcases br_cls t with ht | ht | ht | ht | ht
    · refine br_b_out ht ?_
      exact br_s_v1 (k := 0) (j := 0) (by omega) (by omega) pk_us (by rw [pk_us]; exact hs) (br_symbol (sz := 1) hK (fun _ _ => br_fits (sz := 1) hK (fun _ _ => br_run (sz := 1) hK (fun _ _ => br_e_var_out hp hs ht))))
    · refine br_b_leaf (k := 1) (j := 1) (br_okL ht).1 (br_okL ht).2.1 (br_okL ht).2.2 (by omega) (by omega) ?_
      exact br_s_1 (k := 1) (j := 1) (c := t) (by omega) (by omega) pk_us pk_us ht h2 h0 hK (fun _ _ _ _ _ _ _ _ _ _ _ _ _ _ _ _ _ _ _ _ _ _ _ _ hK' => br_symbol (sz := 1) hK' (fun _ _ => br_fits (sz := 1) hK' (fun _ _ => br_run (sz := 1) hK' (fun _ _ => br_e_var_low hp hs ht))))
    · refine br_b_one (k := 1) (j := 0) ht (by omega) (by omega) ?_
      exact br_s_v2 pk_us (by rw [pk_un (by decide), pk_us]; exact hs) (by rw [pk_us]; exact ht) (br_symbol (sz := 1) hK (fun _ _ => br_fits (sz := 1) hK (fun _ _ => br_run (sz := 1) hK (fun _ _ => br_e_var_one hp hs ht))))
    · refine br_b_two (k := 1) (j := 1) ht (by omega) (by omega) ?_
      exact br_s_v1 (k := 0) (j := 0) (by omega) (by omega) pk_us (by rw [pk_us]; exact hs) (br_symbol (sz := 1) hK (fun _ _ => br_fits (sz := 1) hK (fun _ _ => br_run (sz := 1) hK (fun _ _ => br_e_var_two hp hs ht))))
    · refine br_b_leaf (k := 1) (j := 1) (br_okV ht).1 (br_okV ht).2.1 (br_okV ht).2.2 (by omega) (by omega) ?_
      exact br_s_v1 (k := 1) (j := 1) (by omega) (by omega) pk_us (by rw [pk_us]; exact ht) (br_symbol (sz := 1) hK (fun _ _ => br_fits (sz := 1) hK (fun _ _ => br_run (sz := 1) hK (fun _ _ => br_e_var_var hp hs ht))))
theorem br_cell {post : Int32 → Prop} {L : Nat} {xs : Nat → Int32} {u : St0} {k : Nat} (hL : L ≤ 4) (hk : k < 4) (H : ∀ r, post r) : wpL_cellAt post L xs u (nI k) :=
  pk_le L k (fun _ => H _) (fun h => ⟨pk_in k L h, H _⟩)
theorem i_vc (xs : Nat → Int32) (L : Nat) (hL : L ≤ 4) : wpL_law (fun r => r = 1) L xs :=
  br_cell (k := 0) hL (by omega) fun _ => br_cell (k := 1) hL (by omega) fun _ => br_cell (k := 2) hL (by omega) fun _ => br_cell (k := 3) hL (by omega) fun _ =>
    ⟨22, 1033, by decide, by decide, br_law rfl⟩
end
