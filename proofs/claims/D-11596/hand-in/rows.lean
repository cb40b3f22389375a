section
section
variable {cp cap pr fo fb pc be : Int32} {a1 a2 a3 a4 a5 a6 a7 a8 : Nat → Int32}
theorem sj_b8 : ∀ n, n < 128 → (nI n).toInt8.toInt32 = nI n := by decide +kernel
theorem sj_vb {n : Nat} (h : n < 128) : vp_nar .byte (nI n) = nI n := by rw [vp_nar_byte, sj_b8 n h]
theorem sj_c1 : (1 : Int32).toNatClampNeg = 1 := by decide
theorem sj_i0 : vp_in 0 5 := pk_in 0 5 (by decide)
theorem sj_i1 : vp_in 1 5 := pk_in 1 5 (by decide)
theorem sj_i2 : vp_in 2 5 := pk_in 2 5 (by decide)
theorem sj_i3 : vp_in 3 5 := pk_in 3 5 (by decide)
theorem sj_i4 : vp_in 4 5 := pk_in 4 5 (by decide)
/-- the tail of the loop over followers: places 2, 3, 4 aren't among them -/
theorem sj_pfT {post : St2 → Prop} {x3 x4 : Int32} (h2 : (x4 >>> ((2 : Int32) &&& 31)) &&& 1 = 0) (h3 : (x4 >>> ((3 : Int32) &&& 31)) &&& 1 = 0) (h4 : (x4 >>> ((4 : Int32) &&& 31)) &&& 1 = 0) (H : post (cp, cap, pr, fo, fb, pc, be, a1, a2, a3, a4, a5, a6, a7, a8)) :
    wX_pushFollowers_27 post x3 x4 cp cap pr fo fb pc be 4 2 a1 a2 a3 a4 a5 a6 a7 a8 := by
  refine br_f (by decide) (br_t h2 (nm_r (e' := 3) (by decide) ?_))
  refine br_f (by decide) (br_t h3 (nm_r (e' := 4) (by decide) ?_))
  refine br_f (by decide) (br_t h4 (nm_r (e' := 5) (by decide) ?_))
  exact br_t (by decide) H
/-- no follower in the set: nothing is put off -/
theorem sj_pf0 {post : St2 → Prop} {i set : Int32} (hi : vp_in i 5) (ha : a6 i.toNatClampNeg &&& set = 0) (H : post (cp, cap, pr, fo, fb, pc, be, a1, a2, a3, a4, a5, a6, a7, a8)) : wpX_pushFollowers post (cp, cap, pr, fo, fb, pc, be, a1, a2, a3, a4, a5, a6, a7, a8) i set := by
  unfold wpX_pushFollowers
  refine ⟨hi, hi, nm_e ⟨hi, nm_r ha ⟨6, ?_⟩⟩⟩
  refine br_f (by decide) (br_t (by decide) (nm_r (e' := 1) (by decide) ?_))
  refine br_f (by decide) (br_t (by decide) (nm_r (e' := 2) (by decide) ?_))
  exact sj_pfT (by decide) (by decide) (by decide) H
/-- a link from 0 to 1: job 1 waits for job 0 -/
theorem sj_pfA {post : St2 → Prop} {A B l : Nat} (h6 : a6 0 = 2) (h70 : a7 0 = nI A) (h71 : a7 1 = nI B) (h2 : a2 0 = nI l) (hA : A + l < 128) (hB : B < 128)
    (H : ∀ b7 : Nat → Int32, b7 0 = nI A → b7 1 = nI (max B (A + l)) → post (cp, cap, pr, fo, fb, pc, be, a1, a2, a3, a4, a5, a6, b7, a8)) : wpX_pushFollowers post (cp, cap, pr, fo, fb, pc, be, a1, a2, a3, a4, a5, a6, a7, a8) 0 3 := by
  have e3 : a7 (0 : Int32).toNatClampNeg + a2 (0 : Int32).toNatClampNeg = nI (A + l) := by rw [sb_cl0, h70, h2, nI_add]
  have e4 : a6 (0 : Int32).toNatClampNeg &&& 3 = 2 := by rw [sb_cl0, h6]; decide
  unfold wpX_pushFollowers
  refine ⟨sj_i0, sj_i0, nm_r e3 ⟨sj_i0, nm_r e4 ⟨6, ?_⟩⟩⟩
  refine br_f (by decide) (br_t (by decide) (nm_r (e' := 1) (by decide) ?_))
  refine br_f (by decide) (br_f (by decide) ⟨sj_i1, ?_⟩)
  refine pk_le (A + l) B (fun z => ?_) (fun z => ?_) rfl (by rw [sj_c1]; exact h71)
  · refine nm_r (e' := 2) (by decide) (sj_pfT (by decide) (by decide) (by decide) (H a7 h70 ?_))
    rw [h71, show max B (A + l) = B by omega]
  · refine ⟨sj_i1, nm_r (e' := upd a7 1 (nI (A + l))) (by rw [sj_c1, sj_b8 _ hA]) (nm_r (e' := 2) (by decide) (sj_pfT (by decide) (by decide) (by decide) (H _ ?_ ?_)))⟩
    · rw [pk_un (by decide)]; exact h70
    · rw [pk_us, show max B (A + l) = A + l by omega]
/-- a link from 1 to 0: job 0 waits for job 1 -/
theorem sj_pfB {post : St2 → Prop} {A B l : Nat} (h6 : a6 1 = 1) (h70 : a7 0 = nI A) (h71 : a7 1 = nI B) (h2 : a2 1 = nI l) (hA : A < 128) (hB : B + l < 128)
    (H : ∀ b7 : Nat → Int32, b7 0 = nI (max A (B + l)) → b7 1 = nI B → post (cp, cap, pr, fo, fb, pc, be, a1, a2, a3, a4, a5, a6, b7, a8)) : wpX_pushFollowers post (cp, cap, pr, fo, fb, pc, be, a1, a2, a3, a4, a5, a6, a7, a8) 1 3 := by
  have e3 : a7 (1 : Int32).toNatClampNeg + a2 (1 : Int32).toNatClampNeg = nI (B + l) := by rw [sj_c1, h71, h2, nI_add]
  have e4 : a6 (1 : Int32).toNatClampNeg &&& 3 = 1 := by rw [sj_c1, h6]; decide
  unfold wpX_pushFollowers
  refine ⟨sj_i1, sj_i1, nm_r e3 ⟨sj_i1, nm_r e4 ⟨6, ?_⟩⟩⟩
  refine br_f (by decide) (br_f (by decide) ⟨sj_i0, ?_⟩)
  refine pk_le (B + l) A (fun z => ?_) (fun z => ?_) rfl (by rw [sb_cl0]; exact h70)
  · refine nm_r (e' := 1) (by decide) (br_f (by decide) (br_t (by decide) (nm_r (e' := 2) (by decide) (sj_pfT (by decide) (by decide) (by decide) (H a7 ?_ h71)))))
    rw [h70, show max A (B + l) = A by omega]
  · refine ⟨sj_i0, nm_r (e' := upd a7 0 (nI (B + l))) (by rw [sb_cl0, sj_b8 _ hB]) (nm_r (e' := 1) (by decide) (br_f (by decide) (br_t (by decide) (nm_r (e' := 2) (by decide) (sj_pfT (by decide) (by decide) (by decide) (H _ ?_ ?_))))))⟩
    · rw [pk_us, show max A (B + l) = B + l by omega]
    · rw [pk_un (by decide)]; exact h71
/-- the tail of a round: jobs 2, 3, 4 aren't in the set -/
theorem sj_rdT {post : St2 → Prop} {J27 : Int32 → Int32 → Int32 → Int32 → Int32 → Int32 → Int32 → Int32 → (Nat → Int32) → (Nat → Int32) → (Nat → Int32) → (Nat → Int32) → (Nat → Int32) → (Nat → Int32) → (Nat → Int32) → (Nat → Int32) → Prop} {set x2 : Int32}
    (h2 : (set >>> ((2 : Int32) &&& 31)) &&& 1 = 0) (h3 : (set >>> ((3 : Int32) &&& 31)) &&& 1 = 0) (h4 : (set >>> ((4 : Int32) &&& 31)) &&& 1 = 0) (H : J27 (x2 + 1) cp cap pr fo fb pc be a1 a2 a3 a4 a5 a6 a7 a8) :
    wX_setReady_34 post J27 set x2 4 2 cp cap pr fo fb pc be a1 a2 a3 a4 a5 a6 a7 a8 := by
  refine br_f (by decide) (br_t h2 (nm_r (e' := 3) (by decide) ?_))
  refine br_f (by decide) (br_t h3 (nm_r (e' := 4) (by decide) ?_))
  refine br_f (by decide) (br_t h4 (nm_r (e' := 5) (by decide) ?_))
  exact br_t (by decide) (nm_e H)
/-- a round that changes nothing -/
theorem sj_rdN {post : St2 → Prop} {J27 : Int32 → Int32 → Int32 → Int32 → Int32 → Int32 → Int32 → Int32 → (Nat → Int32) → (Nat → Int32) → (Nat → Int32) → (Nat → Int32) → (Nat → Int32) → (Nat → Int32) → (Nat → Int32) → (Nat → Int32) → Prop} {set x2 : Int32}
    (h0 : ¬ (set >>> ((0 : Int32) &&& 31)) &&& 1 = 0 → a6 0 &&& set = 0) (h1 : ¬ (set >>> ((1 : Int32) &&& 31)) &&& 1 = 0 → a6 1 &&& set = 0)
    (h2 : (set >>> ((2 : Int32) &&& 31)) &&& 1 = 0) (h3 : (set >>> ((3 : Int32) &&& 31)) &&& 1 = 0) (h4 : (set >>> ((4 : Int32) &&& 31)) &&& 1 = 0) (H : J27 (x2 + 1) cp cap pr fo fb pc be a1 a2 a3 a4 a5 a6 a7 a8) :
    ∃ n, wX_setReady_34 post J27 set x2 n 0 cp cap pr fo fb pc be a1 a2 a3 a4 a5 a6 a7 a8 := by
  have t2 : wX_setReady_34 post J27 set x2 4 2 cp cap pr fo fb pc be a1 a2 a3 a4 a5 a6 a7 a8 := sj_rdT h2 h3 h4 H
  have t1 : wX_setReady_34 post J27 set x2 5 1 cp cap pr fo fb pc be a1 a2 a3 a4 a5 a6 a7 a8 := by
    refine br_f (by decide) (br_c (fun _ => nm_r (e' := 2) (by decide) t2) (fun z => ?_))
    refine sj_pf0 sj_i1 (by rw [sj_c1]; exact h1 z) ?_
    exact nm_r (e' := 2) (by decide) t2
  refine ⟨6, br_f (by decide) (br_c (fun _ => nm_r (e' := 1) (by decide) t1) (fun z => ?_))⟩
  refine sj_pf0 sj_i0 (by rw [sb_cl0]; exact h0 z) ?_
  exact nm_r (e' := 1) (by decide) t1
theorem sj_rdA {post : St2 → Prop} {J27 : Int32 → Int32 → Int32 → Int32 → Int32 → Int32 → Int32 → Int32 → (Nat → Int32) → (Nat → Int32) → (Nat → Int32) → (Nat → Int32) → (Nat → Int32) → (Nat → Int32) → (Nat → Int32) → (Nat → Int32) → Prop} {x2 : Int32}
    {A B l : Nat} (h60 : a6 0 = 2) (h61 : a6 1 = 0) (h70 : a7 0 = nI A) (h71 : a7 1 = nI B) (h2 : a2 0 = nI l) (hA : A + l < 128) (hB : B < 128)
    (H : ∀ b7 : Nat → Int32, b7 0 = nI A → b7 1 = nI (max B (A + l)) → J27 (x2 + 1) cp cap pr fo fb pc be a1 a2 a3 a4 a5 a6 b7 a8) : ∃ n, wX_setReady_34 post J27 3 x2 n 0 cp cap pr fo fb pc be a1 a2 a3 a4 a5 a6 a7 a8 := by
  refine ⟨6, br_f (by decide) (br_f (by decide) ?_)⟩
  refine sj_pfA h60 h70 h71 h2 hA hB (fun b7 k0 k1 => ?_)
  refine nm_r (e' := 1) (by decide) (br_f (by decide) (br_f (by decide) ?_))
  refine sj_pf0 sj_i1 (by rw [sj_c1, h61]; decide) ?_
  exact nm_r (e' := 2) (by decide) (sj_rdT (by decide) (by decide) (by decide) (H b7 k0 k1))
theorem sj_rdB {post : St2 → Prop} {J27 : Int32 → Int32 → Int32 → Int32 → Int32 → Int32 → Int32 → Int32 → (Nat → Int32) → (Nat → Int32) → (Nat → Int32) → (Nat → Int32) → (Nat → Int32) → (Nat → Int32) → (Nat → Int32) → (Nat → Int32) → Prop} {x2 : Int32}
    {A B l : Nat} (h60 : a6 0 = 0) (h61 : a6 1 = 1) (h70 : a7 0 = nI A) (h71 : a7 1 = nI B) (h2 : a2 1 = nI l) (hA : A < 128) (hB : B + l < 128)
    (H : ∀ b7 : Nat → Int32, b7 0 = nI (max A (B + l)) → b7 1 = nI B → J27 (x2 + 1) cp cap pr fo fb pc be a1 a2 a3 a4 a5 a6 b7 a8) : ∃ n, wX_setReady_34 post J27 3 x2 n 0 cp cap pr fo fb pc be a1 a2 a3 a4 a5 a6 a7 a8 := by
  refine ⟨6, br_f (by decide) (br_f (by decide) ?_)⟩
  refine sj_pf0 sj_i0 (by rw [sb_cl0, h60]; decide) ?_
  refine nm_r (e' := 1) (by decide) (br_f (by decide) (br_f (by decide) ?_))
  refine sj_pfB h61 h70 h71 h2 hA hB (fun b7 k0 k1 => ?_)
  exact nm_r (e' := 2) (by decide) (sj_rdT (by decide) (by decide) (by decide) (H b7 k0 k1))
/-- the releases are copied -/
theorem sj_cpy {post : St2 → Prop} {set : Int32} {A B : Nat} (h0 : a1 0 = nI A) (h1 : a1 1 = nI B) (hA : A < 128) (hB : B < 128)
    (H : ∀ b7 : Nat → Int32, b7 0 = nI A → b7 1 = nI B → ∃ n, wX_setReady_27 post set n 0 cp cap pr fo fb pc be a1 a2 a3 a4 a5 a6 b7 a8) : wpX_setReady post (cp, cap, pr, fo, fb, pc, be, a1, a2, a3, a4, a5, a6, a7, a8) set := by
  unfold wpX_setReady
  refine ⟨6, br_f (by decide) ⟨sj_i0, sj_i0, nm_r (e' := upd a7 0 (nI A)) (by rw [sb_cl0, h0, sj_vb hA]) (nm_r (e' := 1) (by decide) ?_)⟩⟩
  refine br_f (by decide) ⟨sj_i1, sj_i1, nm_r (e' := upd (upd a7 0 (nI A)) 1 (nI B)) (by rw [sj_c1, h1, sj_vb hB]) (nm_r (e' := 2) (by decide) ?_)⟩
  refine br_f (by decide) ⟨sj_i2, sj_i2, nm_e (nm_r (e' := 3) (by decide) ?_)⟩
  refine br_f (by decide) ⟨sj_i3, sj_i3, nm_e (nm_r (e' := 4) (by decide) ?_)⟩
  refine br_f (by decide) ⟨sj_i4, sj_i4, nm_e (nm_r (e' := 5) (by decide) ?_)⟩
  refine br_t (by decide) (H _ ?_ ?_)
  · rw [pk_un (by decide), pk_un (by decide), pk_un (by decide), pk_un (by decide), pk_us]
  · rw [pk_un (by decide), pk_un (by decide), pk_un (by decide), pk_us]
theorem sj_srN {post : St2 → Prop} {set : Int32} {A B : Nat} (k0 : a1 0 = nI A) (k1 : a1 1 = nI B) (hA : A < 128) (hB : B < 128)
    (h0 : ¬ (set >>> ((0 : Int32) &&& 31)) &&& 1 = 0 → a6 0 &&& set = 0) (h1 : ¬ (set >>> ((1 : Int32) &&& 31)) &&& 1 = 0 → a6 1 &&& set = 0)
    (h2 : (set >>> ((2 : Int32) &&& 31)) &&& 1 = 0) (h3 : (set >>> ((3 : Int32) &&& 31)) &&& 1 = 0) (h4 : (set >>> ((4 : Int32) &&& 31)) &&& 1 = 0)
    (H : ∀ b7 : Nat → Int32, b7 0 = nI A → b7 1 = nI B → post (cp, cap, pr, fo, fb, pc, be, a1, a2, a3, a4, a5, a6, b7, a8)) : wpX_setReady post (cp, cap, pr, fo, fb, pc, be, a1, a2, a3, a4, a5, a6, a7, a8) set := by
  refine sj_cpy k0 k1 hA hB (fun b7 e0 e1 => ⟨6, ?_⟩)
  refine br_f (by decide) (sj_rdN h0 h1 h2 h3 h4 ?_)
  refine br_f (by decide) (sj_rdN h0 h1 h2 h3 h4 ?_)
  refine br_f (by decide) (sj_rdN h0 h1 h2 h3 h4 ?_)
  refine br_f (by decide) (sj_rdN h0 h1 h2 h3 h4 ?_)
  refine br_f (by decide) (sj_rdN h0 h1 h2 h3 h4 ?_)
  exact br_t (by decide) (H b7 e0 e1)
theorem sj_srA {post : St2 → Prop} {A B l : Nat} (k0 : a1 0 = nI A) (k1 : a1 1 = nI B) (h60 : a6 0 = 2) (h61 : a6 1 = 0) (h2 : a2 0 = nI l) (hA : A + l < 128) (hB : B < 128)
    (H : ∀ b7 : Nat → Int32, b7 0 = nI A → b7 1 = nI (max B (A + l)) → post (cp, cap, pr, fo, fb, pc, be, a1, a2, a3, a4, a5, a6, b7, a8)) : wpX_setReady post (cp, cap, pr, fo, fb, pc, be, a1, a2, a3, a4, a5, a6, a7, a8) 3 := by
  refine sj_cpy k0 k1 (by omega) hB (fun b7 e0 e1 => ⟨6, ?_⟩)
  refine br_f (by decide) (sj_rdA h60 h61 e0 e1 h2 hA hB (fun b7 e0 e1 => ?_))
  refine br_f (by decide) (sj_rdA h60 h61 e0 e1 h2 hA (by omega) (fun b7 e0 e1 => ?_))
  refine br_f (by decide) (sj_rdA h60 h61 e0 e1 h2 hA (by omega) (fun b7 e0 e1 => ?_))
  refine br_f (by decide) (sj_rdA h60 h61 e0 e1 h2 hA (by omega) (fun b7 e0 e1 => ?_))
  refine br_f (by decide) (sj_rdA h60 h61 e0 e1 h2 hA (by omega) (fun b7 e0 e1 => ?_))
  refine br_t (by decide) (H b7 e0 ?_)
  rw [e1]
  exact congrArg nI (by omega)
theorem sj_srB {post : St2 → Prop} {A B l : Nat} (k0 : a1 0 = nI A) (k1 : a1 1 = nI B) (h60 : a6 0 = 0) (h61 : a6 1 = 1) (h2 : a2 1 = nI l) (hA : A < 128) (hB : B + l < 128)
    (H : ∀ b7 : Nat → Int32, b7 0 = nI (max A (B + l)) → b7 1 = nI B → post (cp, cap, pr, fo, fb, pc, be, a1, a2, a3, a4, a5, a6, b7, a8)) : wpX_setReady post (cp, cap, pr, fo, fb, pc, be, a1, a2, a3, a4, a5, a6, a7, a8) 3 := by
  refine sj_cpy k0 k1 hA (by omega) (fun b7 e0 e1 => ⟨6, ?_⟩)
  refine br_f (by decide) (sj_rdB h60 h61 e0 e1 h2 hA hB (fun b7 e0 e1 => ?_))
  refine br_f (by decide) (sj_rdB h60 h61 e0 e1 h2 (by omega) hB (fun b7 e0 e1 => ?_))
  refine br_f (by decide) (sj_rdB h60 h61 e0 e1 h2 (by omega) hB (fun b7 e0 e1 => ?_))
  refine br_f (by decide) (sj_rdB h60 h61 e0 e1 h2 (by omega) hB (fun b7 e0 e1 => ?_))
  refine br_f (by decide) (sj_rdB h60 h61 e0 e1 h2 (by omega) hB (fun b7 e0 e1 => ?_))
  refine br_t (by decide) (H b7 ?_ e1)
  rw [e0]
  exact congrArg nI (by omega)
end
end
section
section
variable {cp cap pr fo fb pc be : Int32} {a1 a2 a3 a4 a5 a6 a7 a8 : Nat → Int32}
/-- the tail of the search: places 2, 3, 4 aren't in the group -/
theorem sj_eoT {post : Int32 → Prop} {g x : Int32} (h2 : (g >>> ((2 : Int32) &&& 31)) &&& 1 = 0) (h3 : (g >>> ((3 : Int32) &&& 31)) &&& 1 = 0) (h4 : (g >>> ((4 : Int32) &&& 31)) &&& 1 = 0) (H : post x) :
    wX_earliestOf_4 post g cp cap pr fo fb pc be a1 a2 a3 a4 a5 a6 a7 a8 4 x 2 := by
  refine br_f (by decide) (br_t h2 (nm_r (e' := 3) (by decide) ?_))
  refine br_f (by decide) (br_t h3 (nm_r (e' := 4) (by decide) ?_))
  refine br_f (by decide) (br_t h4 (nm_r (e' := 5) (by decide) ?_))
  exact br_t (by decide) H
theorem sj_eo0 {post : Int32 → Prop} {g : Int32} (hg : g = 0) (H : post (-1)) : wpX_earliestOf post (cp, cap, pr, fo, fb, pc, be, a1, a2, a3, a4, a5, a6, a7, a8) g := by
  subst hg
  unfold wpX_earliestOf
  refine ⟨6, br_f (by decide) (br_t (by decide) (nm_r (e' := 1) (by decide) ?_))⟩
  refine br_f (by decide) (br_t (by decide) (nm_r (e' := 2) (by decide) ?_))
  exact sj_eoT (by decide) (by decide) (by decide) H
theorem sj_eo1 {post : Int32 → Prop} {g : Int32} (hg : g = 1) (H : post 0) : wpX_earliestOf post (cp, cap, pr, fo, fb, pc, be, a1, a2, a3, a4, a5, a6, a7, a8) g := by
  subst hg
  unfold wpX_earliestOf
  refine ⟨6, br_f (by decide) (br_f (by decide) (br_t (by decide) (nm_r (e' := 1) (by decide) ?_)))⟩
  refine br_f (by decide) (br_t (by decide) (nm_r (e' := 2) (by decide) ?_))
  exact sj_eoT (by decide) (by decide) (by decide) H
theorem sj_eo2 {post : Int32 → Prop} {g : Int32} (hg : g = 2) (H : post 1) : wpX_earliestOf post (cp, cap, pr, fo, fb, pc, be, a1, a2, a3, a4, a5, a6, a7, a8) g := by
  subst hg
  unfold wpX_earliestOf
  refine ⟨6, br_f (by decide) (br_t (by decide) (nm_r (e' := 1) (by decide) ?_))⟩
  refine br_f (by decide) (br_f (by decide) (br_t (by decide) (nm_r (e' := 2) (by decide) ?_)))
  exact sj_eoT (by decide) (by decide) (by decide) H
theorem sj_eo3 {post : Int32 → Prop} {g : Int32} {A B : Nat} (hg : g = 3) (h70 : a7 0 = nI A) (h71 : a7 1 = nI B) (hA : A < 128) (hB : B < 128) (H0 : A ≤ B → post 0) (H1 : B < A → post 1) : wpX_earliestOf post (cp, cap, pr, fo, fb, pc, be, a1, a2, a3, a4, a5, a6, a7, a8) g := by
  subst hg
  unfold wpX_earliestOf
  refine ⟨6, br_f (by decide) (br_f (by decide) (br_t (by decide) (nm_r (e' := 1) (by decide) ?_)))⟩
  refine br_f (by decide) (br_f (by decide) (br_f (by decide) ⟨sj_i1, sj_i0, ?_⟩))
  refine pk_le A B (fun z => nm_r (e' := 2) (by decide) ?_) (fun z => nm_r (e' := 2) (by decide) ?_) (by rw [sb_cl0]; exact h70) (by rw [sj_c1]; exact h71)
  · exact sj_eoT (by decide) (by decide) (by decide) (H0 z)
  · exact sj_eoT (by decide) (by decide) (by decide) (H1 z)
theorem sj_fb1 {post : Int32 → St2 → Prop} {g : Int32} {A l : Nat} (hg : g = 1) (h70 : a7 0 = nI A) (h2 : a2 0 = nI l) (hA : A + l < 128) (H : post 1 (cp, cap, pr, fo, fb, pc, nI (A + l), a1, a2, a3, a4, a5, a6, a7, a8)) : wpX_firstBlock post (cp, cap, pr, fo, fb, pc, be, a1, a2, a3, a4, a5, a6, a7, a8) g := by
  subst hg
  unfold wpX_firstBlock
  refine ⟨6, br_f (by decide) (sj_eo1 (by decide) (br_t (by decide) (br_f (by decide) ⟨sj_i0, nm_r (e' := nI A) (by rw [sb_cl0]; exact h70) ?_⟩)))⟩
  refine br_t rfl (nm_r (e' := 1) (by decide) ⟨sj_i0, nm_r (e' := nI (A + l)) (by rw [sb_cl0, h2, nI_add]) (nm_r (e' := 1) (by decide) ?_)⟩)
  exact br_f (by decide) (sj_eo0 (by decide) (br_f (by decide) H))
theorem sj_fb2 {post : Int32 → St2 → Prop} {g : Int32} {B l : Nat} (hg : g = 2) (h71 : a7 1 = nI B) (h2 : a2 1 = nI l) (hB : B + l < 128) (H : post 2 (cp, cap, pr, fo, fb, pc, nI (B + l), a1, a2, a3, a4, a5, a6, a7, a8)) : wpX_firstBlock post (cp, cap, pr, fo, fb, pc, be, a1, a2, a3, a4, a5, a6, a7, a8) g := by
  subst hg
  unfold wpX_firstBlock
  refine ⟨6, br_f (by decide) (sj_eo2 (by decide) (br_t (by decide) (br_f (by decide) ⟨sj_i1, nm_r (e' := nI B) (by rw [sj_c1]; exact h71) ?_⟩)))⟩
  refine br_t rfl (nm_r (e' := 2) (by decide) ⟨sj_i1, nm_r (e' := nI (B + l)) (by rw [sj_c1, h2, nI_add]) (nm_r (e' := 1) (by decide) ?_)⟩)
  exact br_f (by decide) (sj_eo0 (by decide) (br_f (by decide) H))
theorem sj_fb3 {post : Int32 → St2 → Prop} {g : Int32} {A B l p : Nat} (hg : g = 3) (h70 : a7 0 = nI A) (h71 : a7 1 = nI B) (h20 : a2 0 = nI l) (h21 : a2 1 = nI p) (hA : A + l + p < 128) (hB : B + p + l < 128)
    (H1 : A ≤ B → B < A + l → post 3 (cp, cap, pr, fo, fb, pc, nI (A + l + p), a1, a2, a3, a4, a5, a6, a7, a8)) (H2 : A ≤ B → A + l ≤ B → post 1 (cp, cap, pr, fo, fb, pc, nI (A + l), a1, a2, a3, a4, a5, a6, a7, a8))
    (H3 : B < A → A < B + p → post 3 (cp, cap, pr, fo, fb, pc, nI (B + p + l), a1, a2, a3, a4, a5, a6, a7, a8)) (H4 : B < A → B + p ≤ A → post 2 (cp, cap, pr, fo, fb, pc, nI (B + p), a1, a2, a3, a4, a5, a6, a7, a8)) : wpX_firstBlock post (cp, cap, pr, fo, fb, pc, be, a1, a2, a3, a4, a5, a6, a7, a8) g := by
  subst hg
  unfold wpX_firstBlock
  refine ⟨6, br_f (by decide) (sj_eo3 (A := A) (B := B) (by decide) h70 h71 (by omega) (by omega) (fun z => ?_) (fun z => ?_))⟩
  · refine br_t (by decide) (br_f (by decide) ⟨sj_i0, nm_r (e' := nI A) (by rw [sb_cl0]; exact h70) ?_⟩)
    refine br_t rfl (nm_r (e' := 1) (by decide) ⟨sj_i0, nm_r (e' := nI (A + l)) (by rw [sb_cl0, h20, nI_add]) (nm_r (e' := 1) (by decide) ?_)⟩)
    refine br_f (by decide) (sj_eo2 (by decide) (br_t (by decide) (pk_le 0 (A + l) (fun _ => ?_) (fun y => absurd y (by omega)))))
    refine br_f (by decide) ⟨sj_i1, pk_lt B (A + l) (fun y => ?_) (fun y => H2 z y) (by rw [sj_c1]; exact h71)⟩
    refine nm_r (e' := 3) (by decide) ⟨sj_i1, nm_r (e' := nI (A + l + p)) (by rw [sj_c1, h21, nI_add]) (nm_r (e' := 2) (by decide) ?_)⟩
    exact br_f (by decide) (sj_eo0 (by decide) (br_f (by decide) (H1 z y)))
  · refine br_t (by decide) (br_f (by decide) ⟨sj_i1, nm_r (e' := nI B) (by rw [sj_c1]; exact h71) ?_⟩)
    refine br_t rfl (nm_r (e' := 2) (by decide) ⟨sj_i1, nm_r (e' := nI (B + p)) (by rw [sj_c1, h21, nI_add]) (nm_r (e' := 1) (by decide) ?_)⟩)
    refine br_f (by decide) (sj_eo1 (by decide) (br_t (by decide) (pk_le 0 (B + p) (fun _ => ?_) (fun y => absurd y (by omega)))))
    refine br_f (by decide) ⟨sj_i0, pk_lt A (B + p) (fun y => ?_) (fun y => H4 z y) (by rw [sb_cl0]; exact h70)⟩
    refine nm_r (e' := 3) (by decide) ⟨sj_i0, nm_r (e' := nI (B + p + l)) (by rw [sb_cl0, h20, nI_add]) (nm_r (e' := 2) (by decide) ?_)⟩
    exact br_f (by decide) (sj_eo0 (by decide) (br_f (by decide) (H3 z y)))
/-- job i costs c t at t, whatever lies in the scratch fields -/
def sj_C (i cp cap pr fo fb : Int32) (a1 a2 a3 a4 a5 a6 : Nat → Int32) (c : Nat → Nat) : Prop :=
  ∀ (post : Int32 → Prop) (pc be : Int32) (a7 a8 : Nat → Int32) (t : Nat), t < 128 → post (nI (c t)) → wpX_costNow post (cp, cap, pr, fo, fb, pc, be, a1, a2, a3, a4, a5, a6, a7, a8) i (nI t)
/-- the tail of the search for the last job -/
theorem sj_clT {post : Int32 → Prop} {b e x y : Int32} (h2 : (b >>> ((2 : Int32) &&& 31)) &&& 1 = 0) (h3 : (b >>> ((3 : Int32) &&& 31)) &&& 1 = 0) (h4 : (b >>> ((4 : Int32) &&& 31)) &&& 1 = 0) (H : post x) :
    wX_cheapestLast_9 post b e cp cap pr fo fb pc be a1 a2 a3 a4 a5 a6 a7 a8 4 x y 2 := by
  refine br_f (by decide) (br_t h2 (br_t rfl (nm_r (e' := 3) (by decide) ?_)))
  refine br_f (by decide) (br_t h3 (br_t rfl (nm_r (e' := 4) (by decide) ?_)))
  refine br_f (by decide) (br_t h4 (br_t rfl (nm_r (e' := 5) (by decide) ?_)))
  exact br_t (by decide) H
theorem sj_cl1 {post : Int32 → Prop} {b : Int32} {c : Nat → Nat} {t : Nat} (hb : b = 1) (C : sj_C 0 cp cap pr fo fb a1 a2 a3 a4 a5 a6 c) (ht : t < 128) (h6 : a6 0 &&& 1 = 0) (H : post 0) : wpX_cheapestLast post (cp, cap, pr, fo, fb, pc, be, a1, a2, a3, a4, a5, a6, a7, a8) b (nI t) := by
  subst hb
  unfold wpX_cheapestLast
  refine ⟨6, br_f (by decide) (br_f (by decide) (br_f (by decide) ⟨sj_i0, br_t (by rw [sb_cl0]; exact h6) (C _ pc be a7 a8 t ht ?_)⟩))⟩
  refine br_c (fun _ => nm_r (e' := 1) (by decide) ?_) (fun _ => nm_r (e' := 1) (by decide) ?_)
  · exact br_f (by decide) (br_t (by decide) (br_t rfl (nm_r (e' := 2) (by decide) (sj_clT (by decide) (by decide) (by decide) H))))
  · exact br_f (by decide) (br_t (by decide) (br_t rfl (nm_r (e' := 2) (by decide) (sj_clT (by decide) (by decide) (by decide) H))))
theorem sj_cl2 {post : Int32 → Prop} {b : Int32} {c : Nat → Nat} {t : Nat} (hb : b = 2) (C : sj_C 1 cp cap pr fo fb a1 a2 a3 a4 a5 a6 c) (ht : t < 128) (hc : c t ≤ 100000) (h6 : a6 1 &&& 2 = 0) (H : post 1) : wpX_cheapestLast post (cp, cap, pr, fo, fb, pc, be, a1, a2, a3, a4, a5, a6, a7, a8) b (nI t) := by
  subst hb
  unfold wpX_cheapestLast
  refine ⟨6, br_f (by decide) (br_t (by decide) (br_t rfl (nm_r (e' := 1) (by decide) ?_)))⟩
  refine br_f (by decide) (br_f (by decide) (br_f (by decide) ⟨sj_i1, br_t (by rw [sj_c1]; exact h6) (C _ pc be a7 a8 t ht ?_)⟩))
  refine pk_le 100001 (c t) (fun z => absurd z (by omega)) (fun _ => nm_r (e' := 2) (by decide) ?_)
  exact sj_clT (by decide) (by decide) (by decide) H
theorem sj_cl3N {post : Int32 → Prop} {b : Int32} {c d : Nat → Nat} {t : Nat} (hb : b = 3) (C : sj_C 0 cp cap pr fo fb a1 a2 a3 a4 a5 a6 c) (D : sj_C 1 cp cap pr fo fb a1 a2 a3 a4 a5 a6 d) (ht : t < 128) (hc : c t ≤ 100000) (hd : d t ≤ 100000)
    (h60 : a6 0 = 0) (h61 : a6 1 = 0) (H0 : c t ≤ d t → post 0) (H1 : d t < c t → post 1) : wpX_cheapestLast post (cp, cap, pr, fo, fb, pc, be, a1, a2, a3, a4, a5, a6, a7, a8) b (nI t) := by
  subst hb
  unfold wpX_cheapestLast
  refine ⟨6, br_f (by decide) (br_f (by decide) (br_f (by decide) ⟨sj_i0, br_t (by rw [sb_cl0, h60]; decide) (C _ pc be a7 a8 t ht ?_)⟩))⟩
  refine pk_le 100001 (c t) (fun z => absurd z (by omega)) (fun _ => nm_r (e' := 1) (by decide) ?_)
  refine br_f (by decide) (br_f (by decide) (br_f (by decide) ⟨sj_i1, br_t (by rw [sj_c1, h61]; decide) (D _ pc be a7 a8 t ht ?_)⟩))
  refine pk_le (c t) (d t) (fun z => nm_r (e' := 2) (by decide) ?_) (fun z => nm_r (e' := 2) (by decide) ?_)
  · exact sj_clT (by decide) (by decide) (by decide) (H0 z)
  · exact sj_clT (by decide) (by decide) (by decide) (H1 z)
theorem sj_cl3A {post : Int32 → Prop} {b : Int32} {d : Nat → Nat} {t : Nat} (hb : b = 3) (D : sj_C 1 cp cap pr fo fb a1 a2 a3 a4 a5 a6 d) (ht : t < 128) (hd : d t ≤ 100000)
    (h60 : a6 0 = 2) (h61 : a6 1 = 0) (H : post 1) : wpX_cheapestLast post (cp, cap, pr, fo, fb, pc, be, a1, a2, a3, a4, a5, a6, a7, a8) b (nI t) := by
  subst hb
  unfold wpX_cheapestLast
  refine ⟨6, br_f (by decide) (br_f (by decide) (br_f (by decide) ⟨sj_i0, br_f (by rw [sb_cl0, h60]; decide) (nm_r (e' := 1) (by decide) ?_)⟩))⟩
  refine br_f (by decide) (br_f (by decide) (br_f (by decide) ⟨sj_i1, br_t (by rw [sj_c1, h61]; decide) (D _ pc be a7 a8 t ht ?_)⟩))
  refine pk_le 100001 (d t) (fun z => absurd z (by omega)) (fun _ => nm_r (e' := 2) (by decide) ?_)
  exact sj_clT (by decide) (by decide) (by decide) H
theorem sj_cl3B {post : Int32 → Prop} {b : Int32} {c : Nat → Nat} {t : Nat} (hb : b = 3) (C : sj_C 0 cp cap pr fo fb a1 a2 a3 a4 a5 a6 c) (ht : t < 128)
    (h60 : a6 0 = 0) (h61 : a6 1 = 1) (H : post 0) : wpX_cheapestLast post (cp, cap, pr, fo, fb, pc, be, a1, a2, a3, a4, a5, a6, a7, a8) b (nI t) := by
  subst hb
  unfold wpX_cheapestLast
  have T : ∀ y : Int32, wX_cheapestLast_9 post 3 (nI t) cp cap pr fo fb pc be a1 a2 a3 a4 a5 a6 a7 a8 5 0 y 1 := by
    intro y
    refine br_f (by decide) (br_f (by decide) (br_f (by decide) ⟨sj_i1, br_f (by rw [sj_c1, h61]; decide) (nm_r (e' := 2) (by decide) ?_)⟩))
    exact sj_clT (by decide) (by decide) (by decide) H
  refine ⟨6, br_f (by decide) (br_f (by decide) (br_f (by decide) ⟨sj_i0, br_t (by rw [sb_cl0, h60]; decide) (C _ pc be a7 a8 t ht ?_)⟩))⟩
  exact br_c (fun _ => nm_r (e' := 1) (by decide) (T _)) (fun _ => nm_r (e' := 1) (by decide) (T _))
/-- costs by the rule: late from 0 on, weight 1 -/
theorem sj_ruL {post : Int32 → Prop} {i : Int32} {j t : Nat} (hi : vp_in i 5) (hj : i.toNatClampNeg = j) (h3 : a3 j = 0) (h4 : a4 j = 0) (h5 : a5 j = 1) (ht : t < 128) (H : post (nI t)) : wpX_ruled post (cp, cap, pr, fo, fb, pc, be, a1, a2, a3, a4, a5, a6, a7, a8) i (nI t) := by
  unfold wpX_ruled
  refine ⟨hi, nm_r (e' := nI t) (by rw [hj, h4, Int32.sub_zero]) ⟨hi, nm_r (e' := 0) (by rw [hj, h3]) (br_f (by decide) ?_)⟩⟩
  refine pk_lt 0 t (fun z => br_t rfl ⟨hi, ?_⟩) (fun z => ?_)
  · rw [hj, h5, Int32.one_mul]; exact H
  · have e : t = 0 := by omega
    subst e
    exact H
theorem sj_ruH {post : Int32 → Prop} {i : Int32} {j t D : Nat} (hi : vp_in i 5) (hj : i.toNatClampNeg = j) (h3 : a3 j = 3) (h4 : a4 j = nI D) (hD : D < 128) (ht : t < 128) (H : post (nI (if t ≤ D then 0 else 1000))) : wpX_ruled post (cp, cap, pr, fo, fb, pc, be, a1, a2, a3, a4, a5, a6, a7, a8) i (nI t) := by
  unfold wpX_ruled
  refine ⟨hi, nm_r (e' := nI t - nI D) (by rw [hj, h4]) ⟨hi, nm_r (e' := 3) (by rw [hj, h3]) (br_f (by decide) ?_)⟩⟩
  by_cases z : t ≤ D
  · rw [if_pos z] at H
    refine br_f ?_ H
    rcases Nat.lt_or_ge t D with y | y
    · have s := pk_sneg (a := t) (b := D) (by omega) y
      exact fun w => Int32.lt_irrefl (Int32.lt_trans s w)
    · rw [show t = D by omega, Int32.sub_self]
      decide
  · rw [if_neg z] at H
    rw [pk_sub (by omega)]
    exact br_t (nI_lt (a := 0) (by omega) (by omega)) (br_f (by decide) (br_f (by decide) H))
/-- the cost of a job that isn't forced -/
theorem sj_CN {i : Int32} {c : Nat → Nat} (hn : ¬ i = fo) (R : ∀ (post : Int32 → Prop) (pc be : Int32) (a7 a8 : Nat → Int32) (t : Nat), t < 128 → post (nI (c t)) → wpX_ruled post (cp, cap, pr, fo, fb, pc, be, a1, a2, a3, a4, a5, a6, a7, a8) i (nI t)) : sj_C i cp cap pr fo fb a1 a2 a3 a4 a5 a6 c := by
  intro post pc be a7 a8 t ht H
  unfold wpX_costNow
  exact br_f hn (R _ pc be a7 a8 t ht H)
/-- the cost of a job that is forced by m -/
theorem sj_CF {i : Int32} {c : Nat → Nat} {m : Nat} (hn : i = fo) (hm : m < 128) (hf : fb = nI m) (R : ∀ (post : Int32 → Prop) (pc be : Int32) (a7 a8 : Nat → Int32) (t : Nat), t < 128 → post (nI (c t)) → wpX_ruled post (cp, cap, pr, fo, fb, pc, be, a1, a2, a3, a4, a5, a6, a7, a8) i (nI t)) :
    sj_C i cp cap pr fo fb a1 a2 a3 a4 a5 a6 (fun t => if t ≤ m then c t else 100000) := by
  intro post pc be a7 a8 t ht H
  unfold wpX_costNow
  refine br_t hn (pk_le t m (fun z => R _ pc be a7 a8 t ht ?_) (fun z => ?_) rfl hf)
  · dsimp only at H
    rw [if_pos z] at H
    exact H
  · dsimp only at H
    rw [if_neg (by omega)] at H
    exact H
end
end
section
section
variable {cp cap pr fo fb pc be : Int32} {a1 a2 a3 a4 a5 a6 a7 a8 : Nat → Int32}
theorem sj_push0 {post : St2 → Prop} {g : Int32} (hg : g = 0) (H : post (cp, cap, pr, fo, fb, pc, be, a1, a2, a3, a4, a5, a6, a7, a8)) : wpX_push post (cp, cap, pr, fo, fb, pc, be, a1, a2, a3, a4, a5, a6, a7, a8) g := by
  unfold wpX_push
  exact br_t hg H
theorem sj_push1 {post : St2 → Prop} {g : Int32} {v : Nat} (hg : g = nI v) (h0 : 0 < v) (hv : v < 128) (H : ∀ b8 : Nat → Int32, b8 0 = nI v → post (cp, cap, pr, fo, fb, 1, be, a1, a2, a3, a4, a5, a6, a7, b8)) : wpX_push post (cp, cap, pr, fo, fb, 0, be, a1, a2, a3, a4, a5, a6, a7, a8) g := by
  subst hg
  unfold wpX_push
  exact br_f (nI_ne0 h0 (by omega)) (br_f (by decide) ⟨pk_in 0 16 (by decide), nm_r (e' := upd a8 0 (nI v)) (by rw [sb_cl0, sj_b8 v hv]) (nm_r (e' := 1) (by decide) (H _ pk_us))⟩)
theorem sj_ng {c : Nat} (h : c ≤ 100000) : ¬ nI c ≤ (-100000 : Int32) := by
  intro z
  rw [Int32.le_iff_toInt_le, nI_toInt (by omega)] at z
  have e : (-100000 : Int32).toInt = -100000 := by decide
  omega
theorem sj_mx {P : Int32 → Prop} {x y : Nat} (hx : x ≤ 100000) (hy : y ≤ 100000) (H : P (nI (max x y))) : (nI y ≤ nI x → P (nI x)) ∧ (¬ nI y ≤ nI x → P (nI y)) := by
  refine pk_le y x (fun z => ?_) (fun z => ?_)
  · rw [show max x y = x by omega] at H; exact H
  · rw [show max x y = y by omega] at H; exact H
theorem sj_lwE {post : Int32 → St2 → Prop} {n : Nat} {x2 x3 : Int32} (H : post x2 (cp, cap, pr, fo, fb, 0, be, a1, a2, a3, a4, a5, a6, a7, a8)) : wX_leastWorst_23 post (n + 1) x2 x3 cp cap pr fo fb 0 be a1 a2 a3 a4 a5 a6 a7 a8 :=
  br_c (fun _ => H) (fun _ => br_t (by decide) H)
/-- the round over job 0 alone -/
theorem sj_lwS0 {post : Int32 → St2 → Prop} {n : Nat} {x2 x3 : Int32} {c : Nat → Nat} {A l : Nat} (C : sj_C 0 cp cap pr fo fb a1 a2 a3 a4 a5 a6 c) (hx : ¬ 40 ≤ x3) (h8 : a8 0 = 1) (h7 : a7 0 = nI A) (h2 : a2 0 = nI l) (hA : A + l < 128) (h6 : a6 0 &&& 1 = 0)
    (H : (nI (c (A + l)) ≤ x2 → post x2 (cp, cap, pr, fo, fb, 0, nI (A + l), a1, a2, a3, a4, a5, a6, a7, a8)) ∧ (¬ nI (c (A + l)) ≤ x2 → post (nI (c (A + l))) (cp, cap, pr, fo, fb, 0, nI (A + l), a1, a2, a3, a4, a5, a6, a7, a8))) :
    wX_leastWorst_23 post (n + 2) x2 x3 cp cap pr fo fb 1 be a1 a2 a3 a4 a5 a6 a7 a8 := by
  refine br_f hx (br_f (by decide) (nm_r (e' := 0) (by decide) ⟨pk_in 0 16 (by decide), nm_r (e' := 1) (by rw [sb_cl0]; exact h8) ?_⟩))
  refine sj_fb1 rfl h7 h2 hA ?_
  refine sj_push0 (by decide) ?_
  refine sj_cl1 rfl C hA h6 ?_
  refine C _ _ _ _ _ _ hA ?_
  refine br_c (fun z => ?_) (fun z => ?_)
  · unfold wX_leastWorst_111
    refine sj_push0 (by decide) ?_
    exact nm_e (sj_lwE (H.1 z))
  · unfold wX_leastWorst_111
    refine sj_push0 (by decide) ?_
    exact nm_e (sj_lwE (H.2 z))
/-- the round over job 1 alone -/
theorem sj_lwS1 {post : Int32 → St2 → Prop} {n : Nat} {x2 x3 : Int32} {d : Nat → Nat} {B p : Nat} (D : sj_C 1 cp cap pr fo fb a1 a2 a3 a4 a5 a6 d) (hd : ∀ t, t < 128 → d t ≤ 100000) (hx : ¬ 40 ≤ x3) (h8 : a8 0 = 2) (h7 : a7 1 = nI B) (h2 : a2 1 = nI p) (hB : B + p < 128) (h6 : a6 1 &&& 2 = 0)
    (H : (nI (d (B + p)) ≤ x2 → post x2 (cp, cap, pr, fo, fb, 0, nI (B + p), a1, a2, a3, a4, a5, a6, a7, a8)) ∧ (¬ nI (d (B + p)) ≤ x2 → post (nI (d (B + p))) (cp, cap, pr, fo, fb, 0, nI (B + p), a1, a2, a3, a4, a5, a6, a7, a8))) :
    wX_leastWorst_23 post (n + 2) x2 x3 cp cap pr fo fb 1 be a1 a2 a3 a4 a5 a6 a7 a8 := by
  refine br_f hx (br_f (by decide) (nm_r (e' := 0) (by decide) ⟨pk_in 0 16 (by decide), nm_r (e' := 2) (by rw [sb_cl0]; exact h8) ?_⟩))
  refine sj_fb2 rfl h7 h2 hB ?_
  refine sj_push0 (by decide) ?_
  refine sj_cl2 rfl D hB (hd _ hB) h6 ?_
  refine D _ _ _ _ _ _ hB ?_
  refine br_c (fun z => ?_) (fun z => ?_)
  · unfold wX_leastWorst_111
    refine sj_push0 (by decide) ?_
    exact nm_e (sj_lwE (H.1 z))
  · unfold wX_leastWorst_111
    refine sj_push0 (by decide) ?_
    exact nm_e (sj_lwE (H.2 z))
/-- the least greatest cost of the two jobs: ready at A and B, lengths l and p; q t: job 1 is the last at t -/
def sj_LW (c d : Nat → Nat) (q : Nat → Bool) (A B l p : Nat) : Nat :=
  if A ≤ B then
    if B < A + l then (if q (A + l + p) = true then max (d (A + l + p)) (c (A + l)) else max (c (A + l + p)) (d (B + p)))
    else max (c (A + l)) (d (B + p))
  else
    if A < B + p then (if q (B + p + l) = true then max (d (B + p + l)) (c (A + l)) else max (c (B + p + l)) (d (B + p)))
    else max (d (B + p)) (c (A + l))
theorem sj_LWb {c d : Nat → Nat} {q : Nat → Bool} {A B l p : Nat} (hc : ∀ t, t < 128 → c t ≤ 100000) (hd : ∀ t, t < 128 → d t ≤ 100000) (hA : A + l + p < 128) (hB : B + p + l < 128) : sj_LW c d q A B l p ≤ 100000 := by
  have c1 := hc (A + l + p) hA
  have c2 := hc (B + p + l) hB
  have c3 := hc (A + l) (by omega)
  have d1 := hd (A + l + p) hA
  have d2 := hd (B + p + l) hB
  have d3 := hd (B + p) (by omega)
  unfold sj_LW
  split
  · split
    · split <;> omega
    · omega
  · split
    · split <;> omega
    · omega
theorem sj_lw3 {post : Int32 → St2 → Prop} {c d : Nat → Nat} {q : Nat → Bool} {A B l p : Nat} (C : sj_C 0 cp cap pr fo fb a1 a2 a3 a4 a5 a6 c) (D : sj_C 1 cp cap pr fo fb a1 a2 a3 a4 a5 a6 d) (hc : ∀ t, t < 128 → c t ≤ 100000) (hd : ∀ t, t < 128 → d t ≤ 100000)
    (Q : ∀ (P : Int32 → Prop) (pc be : Int32) (a7 a8 : Nat → Int32) (t : Nat), t < 128 → (q t = false → P 0) → (q t = true → P 1) → wpX_cheapestLast P (cp, cap, pr, fo, fb, pc, be, a1, a2, a3, a4, a5, a6, a7, a8) 3 (nI t))
    (h70 : a7 0 = nI A) (h71 : a7 1 = nI B) (h20 : a2 0 = nI l) (h21 : a2 1 = nI p) (hA : A + l + p < 128) (hB : B + p + l < 128) (h60 : a6 0 &&& 1 = 0) (h61 : a6 1 &&& 2 = 0) (h8 : a8 0 = 3)
    (H : ∀ (be : Int32) (a8 : Nat → Int32), post (nI (sj_LW c d q A B l p)) (cp, cap, pr, fo, fb, 0, be, a1, a2, a3, a4, a5, a6, a7, a8)) : wX_leastWorst_23 post 4 (-100000) 0 cp cap pr fo fb 1 be a1 a2 a3 a4 a5 a6 a7 a8 := by
  have lA : A + l < 128 := by omega
  have lB : B + p < 128 := by omega
  -- the second round, over job 0 or over job 1
  have T0 : ∀ (w : Nat) (be : Int32) (b8 : Nat → Int32), w ≤ 100000 → b8 0 = nI 1 → max w (c (A + l)) = sj_LW c d q A B l p → wX_leastWorst_23 post 3 (nI w) (0 + 1) cp cap pr fo fb 1 be a1 a2 a3 a4 a5 a6 a7 b8 := by
    intro w be b8 hw k8 e
    refine sj_lwS0 C (by decide) k8 h70 h20 lA h60 (sj_mx (P := fun z => post z (cp, cap, pr, fo, fb, 0, nI (A + l), a1, a2, a3, a4, a5, a6, a7, b8)) hw (hc _ lA) ?_)
    rw [e]
    exact H _ _
  have T1 : ∀ (w : Nat) (be : Int32) (b8 : Nat → Int32), w ≤ 100000 → b8 0 = nI 2 → max w (d (B + p)) = sj_LW c d q A B l p → wX_leastWorst_23 post 3 (nI w) (0 + 1) cp cap pr fo fb 1 be a1 a2 a3 a4 a5 a6 a7 b8 := by
    intro w be b8 hw k8 e
    refine sj_lwS1 D hd (by decide) k8 h71 h21 lB h61 (sj_mx (P := fun z => post z (cp, cap, pr, fo, fb, 0, nI (B + p), a1, a2, a3, a4, a5, a6, a7, b8)) hw (hd _ lB) ?_)
    rw [e]
    exact H _ _
  refine br_f (by decide) (br_f (by decide) (nm_r (e' := 0) (by decide) ⟨pk_in 0 16 (by decide), nm_r (e' := 3) (by rw [sb_cl0]; exact h8) ?_⟩))
  refine sj_fb3 rfl h70 h71 h20 h21 hA hB (fun y z => ?_) (fun y z => ?_) (fun y z => ?_) (fun y z => ?_)
  · refine sj_push0 (by decide) ?_
    refine Q _ _ _ _ _ _ hA (fun w => ?_) (fun w => ?_)
    · refine C _ _ _ _ _ _ hA (br_f (sj_ng (hc _ hA)) ?_)
      unfold wX_leastWorst_111
      refine sj_push1 (v := 2) (by decide) (by decide) (by decide) (fun b8 k8 => ?_)
      refine nm_e (T1 _ _ _ (hc _ hA) k8 ?_)
      unfold sj_LW; rw [if_pos y, if_pos z, if_neg (by rw [w]; decide)]
    · refine D _ _ _ _ _ _ hA (br_f (sj_ng (hd _ hA)) ?_)
      unfold wX_leastWorst_111
      refine sj_push1 (v := 1) (by decide) (by decide) (by decide) (fun b8 k8 => ?_)
      refine nm_e (T0 _ _ _ (hd _ hA) k8 ?_)
      unfold sj_LW; rw [if_pos y, if_pos z, if_pos w]
  · refine sj_push1 (v := 2) (by decide) (by decide) (by decide) (fun b8 k8 => ?_)
    refine sj_cl1 rfl C lA h60 ?_
    refine C _ _ _ _ _ _ lA (br_f (sj_ng (hc _ lA)) ?_)
    unfold wX_leastWorst_111
    refine sj_push0 (by decide) (nm_e (T1 _ _ _ (hc _ lA) k8 ?_))
    unfold sj_LW; rw [if_pos y, if_neg (by omega)]
  · refine sj_push0 (by decide) ?_
    refine Q _ _ _ _ _ _ hB (fun w => ?_) (fun w => ?_)
    · refine C _ _ _ _ _ _ hB (br_f (sj_ng (hc _ hB)) ?_)
      unfold wX_leastWorst_111
      refine sj_push1 (v := 2) (by decide) (by decide) (by decide) (fun b8 k8 => ?_)
      refine nm_e (T1 _ _ _ (hc _ hB) k8 ?_)
      unfold sj_LW; rw [if_neg (by omega), if_pos z, if_neg (by rw [w]; decide)]
    · refine D _ _ _ _ _ _ hB (br_f (sj_ng (hd _ hB)) ?_)
      unfold wX_leastWorst_111
      refine sj_push1 (v := 1) (by decide) (by decide) (by decide) (fun b8 k8 => ?_)
      refine nm_e (T0 _ _ _ (hd _ hB) k8 ?_)
      unfold sj_LW; rw [if_neg (by omega), if_pos z, if_pos w]
  · refine sj_push1 (v := 1) (by decide) (by decide) (by decide) (fun b8 k8 => ?_)
    refine sj_cl2 rfl D lB (hd _ lB) h61 ?_
    refine D _ _ _ _ _ _ lB (br_f (sj_ng (hd _ lB)) ?_)
    unfold wX_leastWorst_111
    refine sj_push0 (by decide) (nm_e (T0 _ _ _ (hd _ lB) k8 ?_))
    unfold sj_LW; rw [if_neg (by omega), if_neg (by omega)]
/-- leastWorst(set) answers w in this state, whatever lies in the scratch fields -/
def sj_W (set cp cap pr fo fb : Int32) (a1 a2 a3 a4 a5 a6 : Nat → Int32) (w : Nat) : Prop :=
  ∀ (post : Int32 → St2 → Prop) (pc be : Int32) (a7 a8 : Nat → Int32), (∀ (pc be : Int32) (a7 a8 : Nat → Int32), post (nI w) (cp, cap, pr, fo, fb, pc, be, a1, a2, a3, a4, a5, a6, a7, a8)) → wpX_leastWorst post (cp, cap, pr, fo, fb, pc, be, a1, a2, a3, a4, a5, a6, a7, a8) set
theorem sj_W1 {c : Nat → Nat} {A B l : Nat} (C : sj_C 0 cp cap pr fo fb a1 a2 a3 a4 a5 a6 c) (hc : ∀ t, t < 128 → c t ≤ 100000) (k0 : a1 0 = nI A) (k1 : a1 1 = nI B) (h2 : a2 0 = nI l) (h6 : a6 0 &&& 1 = 0) (hA : A + l < 128) (hB : B < 128) :
    sj_W 1 cp cap pr fo fb a1 a2 a3 a4 a5 a6 (c (A + l)) := by
  intro post pc be a7 a8 H
  unfold wpX_leastWorst
  refine sj_srN k0 k1 (by omega) hB (fun _ => h6) (fun z => absurd (by decide) z) (by decide) (by decide) (by decide) (fun b7 e0 e1 => ?_)
  refine nm_r (e' := upd a8 0 1) (by rw [show (1 : Int32).toInt8.toInt32 = 1 by decide]) ⟨2, ?_⟩
  exact sj_lwS0 C (by decide) pk_us e0 h2 hA h6 (br_f (sj_ng (hc _ hA)) (H _ _ _ _))
theorem sj_W2 {d : Nat → Nat} {A B p : Nat} (D : sj_C 1 cp cap pr fo fb a1 a2 a3 a4 a5 a6 d) (hd : ∀ t, t < 128 → d t ≤ 100000) (k0 : a1 0 = nI A) (k1 : a1 1 = nI B) (h2 : a2 1 = nI p) (h6 : a6 1 &&& 2 = 0) (hA : A < 128) (hB : B + p < 128) :
    sj_W 2 cp cap pr fo fb a1 a2 a3 a4 a5 a6 (d (B + p)) := by
  intro post pc be a7 a8 H
  unfold wpX_leastWorst
  refine sj_srN k0 k1 hA (by omega) (fun z => absurd (by decide) z) (fun _ => h6) (by decide) (by decide) (by decide) (fun b7 e0 e1 => ?_)
  refine nm_r (e' := upd a8 0 2) (by rw [show (2 : Int32).toInt8.toInt32 = 2 by decide]) ⟨2, ?_⟩
  exact sj_lwS1 D hd (by decide) pk_us e1 h2 hB h6 (br_f (sj_ng (hd _ hB)) (H _ _ _ _))
/-- the links: none, from 0 to 1, from 1 to 0 -/
def sj_F0 (f : Nat) : Int32 := if f = 1 then 2 else 0
def sj_F1 (f : Nat) : Int32 := if f = 2 then 1 else 0
def sj_q (f : Nat) (c d : Nat → Nat) (t : Nat) : Bool := if f = 0 then decide (d t < c t) else decide (f = 1)
def sj_L (f : Nat) (c d : Nat → Nat) (R p : Nat) : Nat := sj_LW c d (sj_q f c d) (if f = 2 then R + p else 0) (if f = 1 then max R 3 else R) 3 p
theorem sj_Lb {f : Nat} {c d : Nat → Nat} {R p : Nat} (hc : ∀ t, t < 128 → c t ≤ 100000) (hd : ∀ t, t < 128 → d t ≤ 100000) (hR : R < 40) (hp : p < 10) : sj_L f c d R p ≤ 100000 := by
  unfold sj_L
  refine sj_LWb hc hd ?_ ?_
  · split <;> omega
  · split <;> omega
theorem sj_W3 {f : Nat} {c d : Nat → Nat} {R p : Nat} (hf : f < 3) (C : sj_C 0 cp cap pr fo fb a1 a2 a3 a4 a5 a6 c) (D : sj_C 1 cp cap pr fo fb a1 a2 a3 a4 a5 a6 d) (hc : ∀ t, t < 128 → c t ≤ 100000) (hd : ∀ t, t < 128 → d t ≤ 100000)
    (k0 : a1 0 = nI 0) (k1 : a1 1 = nI R) (h20 : a2 0 = nI 3) (h21 : a2 1 = nI p) (h60 : a6 0 = sj_F0 f) (h61 : a6 1 = sj_F1 f) (hR : R < 40) (hp : p < 10) : sj_W 3 cp cap pr fo fb a1 a2 a3 a4 a5 a6 (sj_L f c d R p) := by
  intro post pc be a7 a8 H
  unfold wpX_leastWorst
  have e8 : upd a8 0 (3 : Int32).toInt8.toInt32 = upd a8 0 3 := by rw [show (3 : Int32).toInt8.toInt32 = 3 by decide]
  match f, hf with
  | 0, _ =>
    have g0 : a6 0 = 0 := h60
    have g1 : a6 1 = 0 := h61
    refine sj_srN k0 k1 (by omega) (by omega) (fun _ => by rw [g0]; decide) (fun _ => by rw [g1]; decide) (by decide) (by decide) (by decide) (fun b7 e0 e1 => ?_)
    refine nm_r (e' := upd a8 0 3) e8 ⟨4, ?_⟩
    refine sj_lw3 (q := sj_q 0 c d) C D hc hd (fun P pc be a7 a8 t ht x0 x1 => ?_) e0 e1 h20 h21 (by omega) (by omega) (by rw [g0]; decide) (by rw [g1]; decide) pk_us (fun be a8 => H _ _ _ _)
    exact sj_cl3N rfl C D ht (hc t ht) (hd t ht) g0 g1 (fun z => x0 (decide_eq_false (by omega))) (fun z => x1 (decide_eq_true z))
  | 1, _ =>
    have g0 : a6 0 = 2 := h60
    have g1 : a6 1 = 0 := h61
    refine sj_srA k0 k1 g0 g1 h20 (by omega) (by omega) (fun b7 e0 e1 => ?_)
    refine nm_r (e' := upd a8 0 3) e8 ⟨4, ?_⟩
    refine sj_lw3 (q := sj_q 1 c d) C D hc hd (fun P pc be a7 a8 t ht x0 x1 => ?_) e0 e1 h20 h21 (by omega) (by omega) (by rw [g0]; decide) (by rw [g1]; decide) pk_us (fun be a8 => H _ _ _ _)
    exact sj_cl3A rfl D ht (hd t ht) g0 g1 (x1 rfl)
  | 2, _ =>
    have g0 : a6 0 = 0 := h60
    have g1 : a6 1 = 1 := h61
    refine sj_srB k0 k1 g0 g1 h21 (by omega) (by omega) (fun b7 e0 e1 => ?_)
    rw [Nat.zero_max] at e0
    refine nm_r (e' := upd a8 0 3) e8 ⟨4, ?_⟩
    refine sj_lw3 (q := sj_q 2 c d) C D hc hd (fun P pc be a7 a8 t ht x0 x1 => ?_) e0 e1 h20 h21 (by omega) (by omega) (by rw [g0]; decide) (by rw [g1]; decide) pk_us (fun be a8 => H _ _ _ _)
    exact sj_cl3B rfl C ht g0 g1 (x0 rfl)
end
end
section
section
variable {cp cap pr fo fb pc be : Int32} {a1 a2 a3 a4 a5 a6 a7 a8 : Nat → Int32}
/-- the cost of job 1 by its rule: hard and due D, or late from 0 on -/
def sj_b (h : Bool) (D t : Nat) : Nat := if h = true then (if t ≤ D then 0 else 1000) else t
theorem sj_bb {h : Bool} {D t : Nat} (ht : t < 128) : sj_b h D t ≤ 100000 := by
  unfold sj_b
  split
  · split <;> omega
  · omega
/-- two jobs: job 0 (release 0, length 3, late from 0 on), job 1 (release R, length p, rule h D), links f -/
def sj_K (R p : Nat) (h : Bool) (D f : Nat) (a1 a2 a3 a4 a5 a6 : Nat → Int32) : Prop :=
  (a1 0 = nI 0 ∧ a1 1 = nI R) ∧ (a2 0 = nI 3 ∧ a2 1 = nI p) ∧ (a3 0 = 0 ∧ a3 1 = if h = true then 3 else 0) ∧ (a4 0 = 0 ∧ a4 1 = if h = true then nI D else 0) ∧ (a5 0 = 1 ∧ a5 1 = 1) ∧ (a6 0 = sj_F0 f ∧ a6 1 = sj_F1 f) ∧ (f < 3 ∧ R < 40 ∧ p < 10 ∧ D < 128)
/-- job 0 alone -/
def sj_K1 (a1 a2 a3 a4 a5 a6 : Nat → Int32) : Prop :=
  (a1 0 = nI 0 ∧ a1 1 = nI 0) ∧ a2 0 = nI 3 ∧ a3 0 = 0 ∧ a4 0 = 0 ∧ a5 0 = 1 ∧ a6 0 = 0
/-- the least greatest cost as it is; with job 0 forced by m; with job 1 forced by m -/
def sj_w (R p : Nat) (h : Bool) (D f : Nat) : Nat := sj_L f (fun t => t) (sj_b h D) R p
def sj_w0 (R p : Nat) (h : Bool) (D f m : Nat) : Nat := sj_L f (fun t => if t ≤ m then t else 100000) (sj_b h D) R p
def sj_w1 (R p : Nat) (h : Bool) (D f m : Nat) : Nat := sj_L f (fun t => t) (fun t => if t ≤ m then sj_b h D t else 100000) R p
theorem sj_fb {c : Nat → Nat} {m t : Nat} (ht : t < 128) (h : c t ≤ 100000) : (fun t => if t ≤ m then c t else 100000) t ≤ 100000 := by
  show (if t ≤ m then c t else 100000) ≤ 100000
  split <;> omega
theorem sj_wb {R p : Nat} {h : Bool} {D f : Nat} (hR : R < 40) (hp : p < 10) : sj_w R p h D f ≤ 100000 := sj_Lb (fun t ht => by show t ≤ 100000; omega) (fun t ht => sj_bb ht) hR hp
theorem sj_w0b {R p : Nat} {h : Bool} {D f m : Nat} (hR : R < 40) (hp : p < 10) : sj_w0 R p h D f m ≤ 100000 := sj_Lb (fun t ht => sj_fb (c := fun t => t) ht (by show t ≤ 100000; omega)) (fun t ht => sj_bb ht) hR hp
theorem sj_w1b {R p : Nat} {h : Bool} {D f m : Nat} (hR : R < 40) (hp : p < 10) : sj_w1 R p h D f m ≤ 100000 := sj_Lb (fun t ht => by show t ≤ 100000; omega) (fun t ht => sj_fb ht (sj_bb ht)) hR hp
theorem sj_R0 (h3 : a3 0 = 0) (h4 : a4 0 = 0) (h5 : a5 0 = 1) (post : Int32 → Prop) (pc be : Int32) (a7 a8 : Nat → Int32) (t : Nat) (ht : t < 128) (H : post (nI ((fun t => t) t))) : wpX_ruled post (cp, cap, pr, fo, fb, pc, be, a1, a2, a3, a4, a5, a6, a7, a8) 0 (nI t) :=
  sj_ruL sj_i0 sb_cl0 h3 h4 h5 ht H
theorem sj_R1 {h : Bool} {D : Nat} (h3 : a3 1 = if h = true then 3 else 0) (h4 : a4 1 = if h = true then nI D else 0) (h5 : a5 1 = 1) (hD : D < 128) (post : Int32 → Prop) (pc be : Int32) (a7 a8 : Nat → Int32) (t : Nat) (ht : t < 128) (H : post (nI (sj_b h D t))) : wpX_ruled post (cp, cap, pr, fo, fb, pc, be, a1, a2, a3, a4, a5, a6, a7, a8) 1 (nI t) := by
  cases h with
  | true => exact sj_ruH sj_i1 sj_c1 h3 h4 hD ht H
  | false => exact sj_ruL sj_i1 sj_c1 h3 h4 h5 ht H
theorem sj_Kw {R p : Nat} {h : Bool} {D f : Nat} (K : sj_K R p h D f a1 a2 a3 a4 a5 a6) : sj_W 3 cp cap pr (-1) fb a1 a2 a3 a4 a5 a6 (sj_w R p h D f) := by
  obtain ⟨⟨k10, k11⟩, ⟨k20, k21⟩, ⟨k30, k31⟩, ⟨k40, k41⟩, ⟨k50, k51⟩, ⟨k60, k61⟩, hf, hR, hp, hD⟩ := K
  exact sj_W3 hf (sj_CN (by decide) (sj_R0 k30 k40 k50)) (sj_CN (by decide) (sj_R1 k31 k41 k51 hD)) (fun t ht => by show t ≤ 100000; omega) (fun t ht => sj_bb ht) k10 k11 k20 k21 k60 k61 hR hp
theorem sj_Kw0 {R p : Nat} {h : Bool} {D f m : Nat} (K : sj_K R p h D f a1 a2 a3 a4 a5 a6) (hm : m < 128) : sj_W 3 cp cap pr 0 (nI m) a1 a2 a3 a4 a5 a6 (sj_w0 R p h D f m) := by
  obtain ⟨⟨k10, k11⟩, ⟨k20, k21⟩, ⟨k30, k31⟩, ⟨k40, k41⟩, ⟨k50, k51⟩, ⟨k60, k61⟩, hf, hR, hp, hD⟩ := K
  exact sj_W3 hf (sj_CF rfl hm rfl (sj_R0 k30 k40 k50)) (sj_CN (by decide) (sj_R1 k31 k41 k51 hD)) (fun t ht => sj_fb (c := fun t => t) ht (by show t ≤ 100000; omega)) (fun t ht => sj_bb ht) k10 k11 k20 k21 k60 k61 hR hp
theorem sj_Kw1 {R p : Nat} {h : Bool} {D f m : Nat} (K : sj_K R p h D f a1 a2 a3 a4 a5 a6) (hm : m < 128) : sj_W 3 cp cap pr 1 (nI m) a1 a2 a3 a4 a5 a6 (sj_w1 R p h D f m) := by
  obtain ⟨⟨k10, k11⟩, ⟨k20, k21⟩, ⟨k30, k31⟩, ⟨k40, k41⟩, ⟨k50, k51⟩, ⟨k60, k61⟩, hf, hR, hp, hD⟩ := K
  exact sj_W3 hf (sj_CN (by decide) (sj_R0 k30 k40 k50)) (sj_CF rfl hm rfl (sj_R1 k31 k41 k51 hD)) (fun t ht => by show t ≤ 100000; omega) (fun t ht => sj_fb ht (sj_bb ht)) k10 k11 k20 k21 k60 k61 hR hp
theorem sj_Kw2 {R p : Nat} {h : Bool} {D : Nat} (K : sj_K R p h D 0 a1 a2 a3 a4 a5 a6) : sj_W 2 cp cap pr (-1) fb a1 a2 a3 a4 a5 a6 (sj_b h D (R + p)) := by
  obtain ⟨⟨k10, k11⟩, ⟨k20, k21⟩, ⟨k30, k31⟩, ⟨k40, k41⟩, ⟨k50, k51⟩, ⟨k60, k61⟩, hf, hR, hp, hD⟩ := K
  have g1 : a6 1 = 0 := k61
  exact sj_W2 (sj_CN (by decide) (sj_R1 k31 k41 k51 hD)) (fun t ht => sj_bb ht) k10 k11 k21 (by rw [g1]; decide) (by omega) (by omega)
theorem sj_K1w (K : sj_K1 a1 a2 a3 a4 a5 a6) : sj_W 1 cp cap pr (-1) fb a1 a2 a3 a4 a5 a6 3 := by
  obtain ⟨⟨k10, k11⟩, k20, k30, k40, k50, k60⟩ := K
  exact sj_W1 (A := 0) (l := 3) (sj_CN (by decide) (sj_R0 k30 k40 k50)) (fun t ht => by show t ≤ 100000; omega) k10 k11 k20 (by rw [k60]; decide) (by decide) (by decide)
theorem sj_K1w0 {m : Nat} (K : sj_K1 a1 a2 a3 a4 a5 a6) (hm : m < 128) : sj_W 1 cp cap pr 0 (nI m) a1 a2 a3 a4 a5 a6 (if 3 ≤ m then 3 else 100000) := by
  obtain ⟨⟨k10, k11⟩, k20, k30, k40, k50, k60⟩ := K
  exact sj_W1 (A := 0) (l := 3) (sj_CF rfl hm rfl (sj_R0 k30 k40 k50)) (fun t ht => sj_fb (c := fun t => t) ht (by show t ≤ 100000; omega)) k10 k11 k20 (by rw [k60]; decide) (by decide) (by decide)
theorem sj_wc {post : Int32 → St2 → Prop} {w : Nat} (hW : sj_W pr cp 100 pr fo fb a1 a2 a3 a4 a5 a6 w) (hp : ¬ pr = 0) (hw : w ≤ 100000) (H1 : w ≤ 100 → ∀ (pc be : Int32) (a7 a8 : Nat → Int32), post 1 (cp, 100, pr, fo, fb, pc, be, a1, a2, a3, a4, a5, a6, a7, a8)) (H0 : 100 < w → ∀ (pc be : Int32) (a7 a8 : Nat → Int32), post 0 (cp, 100, pr, fo, fb, pc, be, a1, a2, a3, a4, a5, a6, a7, a8)) :
    wpX_withinCap post (cp, 100, pr, fo, fb, pc, be, a1, a2, a3, a4, a5, a6, a7, a8) := by
  unfold wpX_withinCap
  refine br_f hp (hW _ pc be a7 a8 (fun pc be a7 a8 => ?_))
  exact pk_lt 100 w (fun z => H0 z _ _ _ _) (fun z => H1 z _ _ _ _)
/-- the search of earliestFinish -/
def sj_ef (w : Nat → Nat) : Nat → Nat → Nat → Nat
  | 0, lo, _ => lo
  | k + 1, lo, hi => if hi ≤ lo then lo else if w ((lo + hi) / 2) ≤ 100 then sj_ef w k lo ((lo + hi) / 2) else sj_ef w k ((lo + hi) / 2 + 1) hi
theorem sj_efl {post : Int32 → St2 → Prop} {w : Nat → Nat} (hp : ¬ pr = 0) (hW : ∀ m, m < 128 → sj_W pr cp 100 pr fo (nI m) a1 a2 a3 a4 a5 a6 (w m)) (hb : ∀ m, w m ≤ 100000) :
    ∀ (k lo hi : Nat) (fb pc be : Int32) (a7 a8 : Nat → Int32), k ≤ 7 → lo ≤ 61 → hi ≤ 60 → (∀ (fb pc be : Int32) (a7 a8 : Nat → Int32), post (nI (sj_ef w k lo hi)) (cp, 100, pr, (-1), fb, pc, be, a1, a2, a3, a4, a5, a6, a7, a8)) →
      wX_earliestFinish_25 post (k + 1) (nI lo) (nI hi) (nI (7 - k)) cp 100 pr fo fb pc be a1 a2 a3 a4 a5 a6 a7 a8 := by
  intro k
  induction k with
  | zero =>
    intro lo hi fb pc be a7 a8 _ _ _ H
    exact br_t (by decide) (H _ _ _ _ _)
  | succ k ih =>
    intro lo hi fb pc be a7 a8 hk hl hh H
    refine pk_le 7 (7 - (k + 1)) (fun z => absurd z (by omega)) (fun _ => ?_)
    refine pk_le hi lo (fun z => ?_) (fun z => ?_)
    · have e : sj_ef w (k + 1) lo hi = lo := by
        show (if hi ≤ lo then lo else _) = lo
        rw [if_pos z]
      rw [e] at H
      exact H _ _ _ _ _
    · have e : sj_ef w (k + 1) lo hi = if w ((lo + hi) / 2) ≤ 100 then sj_ef w k lo ((lo + hi) / 2) else sj_ef w k ((lo + hi) / 2 + 1) hi := by
        show (if hi ≤ lo then lo else _) = _
        rw [if_neg (by omega)]
      have e7 : nI (7 - (k + 1)) + 1 = nI (7 - k) := by rw [nI_1, show 7 - (k + 1) + 1 = 7 - k by omega]
      refine nm_r (e' := nI ((lo + hi) / 2)) (by rw [nI_add]; exact pk_shrN (by omega) _ 1 (by decide)) ?_
      refine sj_wc (hW _ (by omega)) hp (hb _) (fun y pc be a7 a8 => ?_) (fun y pc be a7 a8 => ?_)
      · rw [e, if_pos y] at H
        exact br_f (by decide) (nm_r e7 (ih _ _ _ _ _ _ _ (by omega) (by omega) (by omega) H))
      · rw [e, if_neg (by omega)] at H
        exact br_t rfl (nm_r (nI_1 _) (nm_r e7 (ih _ _ _ _ _ _ _ (by omega) (by omega) (by omega) H)))
theorem sj_hT {P : Int32 → Prop} {i : Int32} (h0 : ¬ i < 0) (h1 : ¬ cp ≤ i) (h2 : ¬ (pr >>> (i &&& 31)) &&& 1 = 0) (H : P 1) : wpX_holds P (cp, cap, pr, fo, fb, pc, be, a1, a2, a3, a4, a5, a6, a7, a8) i := by
  unfold wpX_holds
  exact br_f h0 (br_f h1 (br_f h2 H))
theorem sj_hF {P : Int32 → Prop} {i : Int32} (h0 : ¬ i < 0) (h1 : ¬ cp ≤ i) (h2 : (pr >>> (i &&& 31)) &&& 1 = 0) (H : P 0) : wpX_holds P (cp, cap, pr, fo, fb, pc, be, a1, a2, a3, a4, a5, a6, a7, a8) i := by
  unfold wpX_holds
  exact br_f h0 (br_f h1 (br_t h2 H))
theorem sj_efT {post : Int32 → St2 → Prop} {i : Int32} {w : Nat → Nat} (h0 : ¬ i < 0) (h1 : ¬ cp ≤ i) (h2 : ¬ (pr >>> (i &&& 31)) &&& 1 = 0) (hp : ¬ pr = 0) (hW : ∀ m, m < 128 → sj_W pr cp 100 pr i (nI m) a1 a2 a3 a4 a5 a6 (w m)) (hb : ∀ m, w m ≤ 100000)
    (H : ∀ (fb pc be : Int32) (a7 a8 : Nat → Int32), post (nI (sj_ef w 7 1 60)) (cp, 100, pr, (-1), fb, pc, be, a1, a2, a3, a4, a5, a6, a7, a8)) : wpX_earliestFinish post (cp, 100, pr, fo, fb, pc, be, a1, a2, a3, a4, a5, a6, a7, a8) i := by
  unfold wpX_earliestFinish
  refine sj_hT h0 h1 h2 (br_f (by decide) ⟨8, ?_⟩)
  exact sj_efl hp hW hb 7 1 60 _ _ _ _ _ (by omega) (by omega) (by omega) H
theorem sj_efF {post : Int32 → St2 → Prop} {i : Int32} (h0 : ¬ i < 0) (h1 : ¬ cp ≤ i) (h2 : (pr >>> (i &&& 31)) &&& 1 = 0) (H : post (-2000) (cp, cap, pr, fo, fb, pc, be, a1, a2, a3, a4, a5, a6, a7, a8)) : wpX_earliestFinish post (cp, cap, pr, fo, fb, pc, be, a1, a2, a3, a4, a5, a6, a7, a8) i := by
  unfold wpX_earliestFinish
  exact sj_hF h0 h1 h2 (br_t rfl H)
theorem sj_wo {post : Int32 → St2 → Prop} {w : Nat} (hp : ¬ pr = 0) (hW : sj_W pr cp cap pr fo fb a1 a2 a3 a4 a5 a6 w) (H : ∀ (pc be : Int32) (a7 a8 : Nat → Int32), post (nI w) (cp, cap, pr, fo, fb, pc, be, a1, a2, a3, a4, a5, a6, a7, a8)) : wpX_worst post (cp, cap, pr, fo, fb, pc, be, a1, a2, a3, a4, a5, a6, a7, a8) := by
  unfold wpX_worst
  exact br_f hp (hW _ pc be a7 a8 (fun pc be a7 a8 => H pc be a7 a8))
theorem sj_ww3 {post : Int32 → St2 → Prop} {w : Nat} (hW : sj_W 2 4 cap 3 fo fb a1 a2 a3 a4 a5 a6 w) (H : ∀ (pc be : Int32) (a7 a8 : Nat → Int32), post (nI w) (4, cap, 3, fo, fb, pc, be, a1, a2, a3, a4, a5, a6, a7, a8)) : wpX_worstWithout post (4, cap, 3, fo, fb, pc, be, a1, a2, a3, a4, a5, a6, a7, a8) 0 := by
  unfold wpX_worstWithout
  refine sj_hT (by decide) (by decide) (by decide) (br_f (by decide) (nm_r (e' := 2) (by decide) (br_f (by decide) ?_)))
  exact hW _ pc be a7 a8 (fun pc be a7 a8 => H pc be a7 a8)
theorem sj_ww1 {post : Int32 → St2 → Prop} (H : post (-2000) (4, cap, 1, fo, fb, pc, be, a1, a2, a3, a4, a5, a6, a7, a8)) : wpX_worstWithout post (4, cap, 1, fo, fb, pc, be, a1, a2, a3, a4, a5, a6, a7, a8) 0 := by
  unfold wpX_worstWithout
  exact sj_hT (by decide) (by decide) (by decide) (br_f (by decide) (nm_r (e' := 0) (by decide) (br_t rfl H)))
theorem sj_sp3 {post : Int32 → St2 → Prop} {R p : Nat} {h : Bool} {D : Nat} (K : sj_K R p h D 0 a1 a2 a3 a4 a5 a6) (H : ∀ (be : Int32) (a7 : Nat → Int32), post (nI (max 3 R + p)) (cp, cap, 3, fo, fb, pc, be, a1, a2, a3, a4, a5, a6, a7, a8)) : wpX_span post (cp, cap, 3, fo, fb, pc, be, a1, a2, a3, a4, a5, a6, a7, a8) := by
  obtain ⟨⟨k10, k11⟩, ⟨k20, k21⟩, ⟨k30, k31⟩, ⟨k40, k41⟩, ⟨k50, k51⟩, ⟨k60, k61⟩, hf, hR, hp, hD⟩ := K
  have g0 : a6 0 = 0 := k60
  have g1 : a6 1 = 0 := k61
  unfold wpX_span
  refine sj_srN k10 k11 (by omega) (by omega) (fun _ => by rw [g0]; decide) (fun _ => by rw [g1]; decide) (by decide) (by decide) (by decide) (fun b7 e0 e1 => ⟨4, ?_⟩)
  refine br_f (by decide) (br_f (by decide) ?_)
  refine sj_fb3 rfl e0 e1 k20 k21 (by omega) (by omega) (fun y z => ?_) (fun y z => ?_) (fun y z => absurd y (by omega)) (fun y z => absurd y (by omega))
  · refine nm_r (e' := 0) (by decide) (nm_r (e' := 1) (by decide) (br_f (by decide) (br_t rfl ?_)))
    rw [show 0 + 3 + p = max 3 R + p by omega]
    exact H _ _
  · refine nm_r (e' := 2) (by decide) (nm_r (e' := 1) (by decide) (br_f (by decide) (br_f (by decide) ?_)))
    refine sj_fb2 rfl e1 k21 (by omega) ?_
    refine nm_r (e' := 0) (by decide) (nm_r (e' := 2) (by decide) (br_f (by decide) (br_t rfl ?_)))
    rw [show R + p = max 3 R + p by omega]
    exact H _ _
theorem sj_sp1 {post : Int32 → St2 → Prop} (K : sj_K1 a1 a2 a3 a4 a5 a6) (H : ∀ (be : Int32) (a7 : Nat → Int32), post 3 (cp, cap, 1, fo, fb, pc, be, a1, a2, a3, a4, a5, a6, a7, a8)) : wpX_span post (cp, cap, 1, fo, fb, pc, be, a1, a2, a3, a4, a5, a6, a7, a8) := by
  obtain ⟨⟨k10, k11⟩, k20, k30, k40, k50, k60⟩ := K
  unfold wpX_span
  refine sj_srN k10 k11 (by omega) (by omega) (fun _ => by rw [k60]; decide) (fun z => absurd (by decide) z) (by decide) (by decide) (by decide) (fun b7 e0 e1 => ⟨4, ?_⟩)
  refine br_f (by decide) (br_f (by decide) ?_)
  refine sj_fb1 rfl e0 k20 (by omega) ?_
  exact nm_r (e' := 0) (by decide) (nm_r (e' := 1) (by decide) (br_f (by decide) (br_t rfl (H _ _))))
/-- the search of delay: k steps are left -/
def sj_de (w : Nat → Nat) (R : Nat) : Nat → Nat → Nat
  | 0, s => s
  | k + 1, s => if w (R + (9 - k)) ≤ 100 then sj_de w R k (9 - k) else s
theorem sj_d70 {post : Int32 → St2 → Prop} {x3 : Int32} {R : Nat} (hR : R < 128) (h0 : a1 0 = nI 0) (H : ∀ b1 : Nat → Int32, b1 0 = nI 0 → b1 1 = nI R → post x3 (cp, cap, pr, fo, fb, pc, be, b1, a2, a3, a4, a5, a6, a7, a8)) : wX_delay_70 post 1 (nI R) x3 cp cap pr fo fb pc be a1 a2 a3 a4 a5 a6 a7 a8 := by
  unfold wX_delay_70
  refine ⟨sj_i1, nm_r (e' := upd a1 1 (nI R)) (by rw [sj_c1, sj_b8 R hR]) (H _ ?_ pk_us)⟩
  rw [pk_un (by decide)]; exact h0
theorem sj_del {post : Int32 → St2 → Prop} {w : Nat → Nat} {R : Nat} (hR : R < 30) (hp : ¬ pr = 0) (hW : ∀ (r : Nat) (a1 : Nat → Int32), r < 40 → a1 0 = nI 0 → a1 1 = nI r → sj_W pr cp 100 pr fo fb a1 a2 a3 a4 a5 a6 (w r)) (hb : ∀ r, r < 40 → w r ≤ 100000) :
    ∀ (k s : Nat) (pc be : Int32) (a1 a7 a8 : Nat → Int32), k ≤ 9 → a1 0 = nI 0 → (∀ (pc be : Int32) (a1 a7 a8 : Nat → Int32), a1 0 = nI 0 → a1 1 = nI R → post (nI (sj_de w R k s)) (cp, 100, pr, fo, fb, pc, be, a1, a2, a3, a4, a5, a6, a7, a8)) →
      wX_delay_27 post 1 (nI R) (k + 2) (nI s) 1 (nI (10 - k)) cp 100 pr fo fb pc be a1 a2 a3 a4 a5 a6 a7 a8 := by
  intro k
  induction k with
  | zero =>
    intro s pc be a1 a7 a8 _ h0 H
    exact br_t (by decide) (sj_d70 (by omega) h0 (fun b1 e0 e1 => H _ _ _ _ _ e0 e1))
  | succ k ih =>
    intro s pc be a1 a7 a8 hk h0 H
    have e : sj_de w R (k + 1) s = if w (R + (9 - k)) ≤ 100 then sj_de w R k (9 - k) else s := rfl
    have e9 : 10 - (k + 1) = 9 - k := by omega
    rw [e9]
    refine pk_lt 9 (9 - k) (fun z => absurd z (by omega)) (fun _ => br_f (by decide) ⟨sj_i1, ?_⟩)
    refine nm_r (e' := upd a1 1 (nI (R + (9 - k)))) (by rw [sj_c1, nI_add, sj_b8 _ (by omega)]) ?_
    have u0 : upd a1 1 (nI (R + (9 - k))) 0 = nI 0 := by rw [pk_un (by decide)]; exact h0
    have eS : nI (9 - k) + 1 = nI (10 - k) := by rw [nI_1, show 9 - k + 1 = 10 - k by omega]
    refine sj_wc (hW (R + (9 - k)) _ (by omega) u0 pk_us) hp (hb _ (by omega)) (fun y pc be a7 a8 => ?_) (fun y pc be a7 a8 => ?_)
    · rw [e, if_pos y] at H
      exact br_f (by decide) (nm_r eS (ih _ _ _ _ _ _ (by omega) u0 H))
    · rw [e, if_neg (by omega)] at H
      have x : wX_delay_70 post 1 (nI R) (nI s) cp 100 pr fo fb pc be (upd a1 1 (nI (R + (9 - k)))) a2 a3 a4 a5 a6 a7 a8 := sj_d70 (by omega) u0 (fun b1 e0 e1 => H _ _ _ _ _ e0 e1)
      exact br_t rfl (nm_r eS (br_c (fun _ => x) (fun _ => br_t rfl x)))
theorem sj_deT {post : Int32 → St2 → Prop} {w : Nat → Nat} {R : Nat} (hR : R < 30) (k0 : a1 0 = nI 0) (k1 : a1 1 = nI R) (hW : ∀ (r : Nat) (a1 : Nat → Int32), r < 40 → a1 0 = nI 0 → a1 1 = nI r → sj_W 3 4 100 3 fo fb a1 a2 a3 a4 a5 a6 (w r)) (hb : ∀ r, r < 40 → w r ≤ 100000)
    (H : ∀ (pc be : Int32) (a1 a7 a8 : Nat → Int32), a1 0 = nI 0 → a1 1 = nI R → post (nI (sj_de w R 9 0)) (4, 100, 3, fo, fb, pc, be, a1, a2, a3, a4, a5, a6, a7, a8)) : wpX_delay post (4, 100, 3, fo, fb, pc, be, a1, a2, a3, a4, a5, a6, a7, a8) 1 := by
  unfold wpX_delay
  refine sj_hT (by decide) (by decide) (by decide) (br_f (by decide) ⟨sj_i1, nm_r (e' := nI R) (by rw [sj_c1]; exact k1) ⟨11, ?_⟩⟩)
  exact sj_del hR (by decide) hW hb 9 0 _ _ _ _ _ (by omega) k0 H
theorem sj_deF {post : Int32 → St2 → Prop} {i : Int32} (h0 : ¬ i < 0) (h1 : ¬ cp ≤ i) (h2 : (pr >>> (i &&& 31)) &&& 1 = 0) (H : post (-2000) (cp, cap, pr, fo, fb, pc, be, a1, a2, a3, a4, a5, a6, a7, a8)) : wpX_delay post (cp, cap, pr, fo, fb, pc, be, a1, a2, a3, a4, a5, a6, a7, a8) i := by
  unfold wpX_delay
  exact sj_hF h0 h1 h2 (br_t rfl H)
end
end
section
section
variable {cp cap pr fo fb pc be : Int32} {a1 a2 a3 a4 a5 a6 a7 a8 : Nat → Int32}
theorem sj_h0 {P : Int32 → Prop} (H : P 1) : wpX_holds P (4, cap, 3, fo, fb, pc, be, a1, a2, a3, a4, a5, a6, a7, a8) 0 := sj_hT (by decide) (by decide) (by decide) H
theorem sj_h1 {P : Int32 → Prop} (H : P 1) : wpX_holds P (4, cap, 3, fo, fb, pc, be, a1, a2, a3, a4, a5, a6, a7, a8) 1 := sj_hT (by decide) (by decide) (by decide) H
theorem sj_g0 {P : Int32 → Prop} (H : P 1) : wpX_holds P (4, cap, 1, fo, fb, pc, be, a1, a2, a3, a4, a5, a6, a7, a8) 0 := sj_hT (by decide) (by decide) (by decide) H
theorem sj_g1 {P : Int32 → Prop} (H : P 0) : wpX_holds P (4, cap, 1, fo, fb, pc, be, a1, a2, a3, a4, a5, a6, a7, a8) 1 := sj_hF (by decide) (by decide) (by decide) H
theorem sj_li01F {P : Int32 → Prop} (h : a6 0 = 0) (H : P 0) : wpX_linked P (4, cap, 3, fo, fb, pc, be, a1, a2, a3, a4, a5, a6, a7, a8) 0 1 := by
  unfold wpX_linked
  exact sj_h0 (br_f (by decide) (sj_h1 (br_f (by decide) ⟨sj_i0, br_t (by rw [sb_cl0, h]; decide) H⟩)))
theorem sj_li01T {P : Int32 → Prop} (h : a6 0 = 2) (H : P 1) : wpX_linked P (4, cap, 3, fo, fb, pc, be, a1, a2, a3, a4, a5, a6, a7, a8) 0 1 := by
  unfold wpX_linked
  exact sj_h0 (br_f (by decide) (sj_h1 (br_f (by decide) ⟨sj_i0, br_f (by rw [sb_cl0, h]; decide) H⟩)))
theorem sj_li10F {P : Int32 → Prop} (h : a6 1 = 0) (H : P 0) : wpX_linked P (4, cap, 3, fo, fb, pc, be, a1, a2, a3, a4, a5, a6, a7, a8) 1 0 := by
  unfold wpX_linked
  exact sj_h1 (br_f (by decide) (sj_h0 (br_f (by decide) ⟨sj_i1, br_t (by rw [sj_c1, h]; decide) H⟩)))
theorem sj_liB {P : Int32 → Prop} (H : P 0) : wpX_linked P (4, cap, 1, fo, fb, pc, be, a1, a2, a3, a4, a5, a6, a7, a8) 0 1 := by
  unfold wpX_linked
  exact sj_g0 (br_f (by decide) (sj_g1 (br_t rfl H)))
/-- a round of reachable over a set that no link leaves -/
theorem sj_re {post : Int32 → Prop} {J6 : Int32 → Int32 → Prop} {s x3 : Int32} (h0 : ¬ (s >>> ((0 : Int32) &&& 31)) &&& 1 = 0 → s ||| a6 0 = s) (h1 : ¬ (s >>> ((1 : Int32) &&& 31)) &&& 1 = 0 → s ||| a6 1 = s)
    (h2 : (s >>> ((2 : Int32) &&& 31)) &&& 1 = 0) (h3 : (s >>> ((3 : Int32) &&& 31)) &&& 1 = 0) (h4 : (s >>> ((4 : Int32) &&& 31)) &&& 1 = 0) (H : J6 s (x3 + 1)) : ∃ n, wX_reachable_14 post J6 x3 cp cap pr fo fb pc be a1 a2 a3 a4 a5 a6 a7 a8 n s 0 := by
  have t2 : wX_reachable_14 post J6 x3 cp cap pr fo fb pc be a1 a2 a3 a4 a5 a6 a7 a8 4 s 2 := by
    refine br_f (by decide) (br_t h2 (nm_r (e' := 3) (by decide) ?_))
    refine br_f (by decide) (br_t h3 (nm_r (e' := 4) (by decide) ?_))
    refine br_f (by decide) (br_t h4 (nm_r (e' := 5) (by decide) ?_))
    exact br_t (by decide) (nm_e H)
  have t1 : wX_reachable_14 post J6 x3 cp cap pr fo fb pc be a1 a2 a3 a4 a5 a6 a7 a8 5 s 1 := by
    refine br_f (by decide) (br_c (fun _ => nm_r (e' := 2) (by decide) t2) (fun z => ⟨sj_i1, nm_r (e' := s) (by rw [sj_c1]; exact h1 z) (nm_r (e' := 2) (by decide) t2)⟩))
  exact ⟨6, br_f (by decide) (br_c (fun _ => nm_r (e' := 1) (by decide) t1) (fun z => ⟨sj_i0, nm_r (e' := s) (by rw [sb_cl0]; exact h0 z) (nm_r (e' := 1) (by decide) t1)⟩))⟩
theorem sj_reF {post : Int32 → Prop} {i s : Int32} (hs : (1 : Int32) <<< (i &&& 31) = s) (h0 : ¬ (s >>> ((0 : Int32) &&& 31)) &&& 1 = 0 → s ||| a6 0 = s) (h1 : ¬ (s >>> ((1 : Int32) &&& 31)) &&& 1 = 0 → s ||| a6 1 = s)
    (h2 : (s >>> ((2 : Int32) &&& 31)) &&& 1 = 0) (h3 : (s >>> ((3 : Int32) &&& 31)) &&& 1 = 0) (h4 : (s >>> ((4 : Int32) &&& 31)) &&& 1 = 0) (H : post s) : wpX_reachable post (cp, cap, pr, fo, fb, pc, be, a1, a2, a3, a4, a5, a6, a7, a8) i := by
  unfold wpX_reachable
  refine nm_r hs ⟨6, ?_⟩
  refine br_f (by decide) (sj_re h0 h1 h2 h3 h4 ?_)
  refine br_f (by decide) (sj_re h0 h1 h2 h3 h4 ?_)
  refine br_f (by decide) (sj_re h0 h1 h2 h3 h4 ?_)
  refine br_f (by decide) (sj_re h0 h1 h2 h3 h4 ?_)
  refine br_f (by decide) (sj_re h0 h1 h2 h3 h4 ?_)
  exact br_t (by decide) H
/-- from job 0 along its link to job 1 -/
theorem sj_reL {post : Int32 → Prop} (g0 : a6 0 = 2) (g1 : a6 1 = 0) (H : post 3) : wpX_reachable post (cp, cap, pr, fo, fb, pc, be, a1, a2, a3, a4, a5, a6, a7, a8) 0 := by
  have h0 : ¬ ((3 : Int32) >>> ((0 : Int32) &&& 31)) &&& 1 = 0 → 3 ||| a6 0 = 3 := fun _ => by rw [g0]; decide
  have h1 : ¬ ((3 : Int32) >>> ((1 : Int32) &&& 31)) &&& 1 = 0 → 3 ||| a6 1 = 3 := fun _ => by rw [g1]; decide
  unfold wpX_reachable
  refine nm_r (e' := 1) (by decide) ⟨6, ?_⟩
  refine br_f (by decide) ⟨6, ?_⟩
  refine br_f (by decide) (br_f (by decide) ⟨sj_i0, nm_r (e' := 3) (by rw [sb_cl0, g0]; decide) (nm_r (e' := 1) (by decide) ?_)⟩)
  refine br_f (by decide) (br_f (by decide) ⟨sj_i1, nm_r (e' := 3) (by rw [sj_c1, g1]; decide) (nm_r (e' := 2) (by decide) ?_)⟩)
  refine br_f (by decide) (br_t (by decide) (nm_r (e' := 3) (by decide) ?_))
  refine br_f (by decide) (br_t (by decide) (nm_r (e' := 4) (by decide) ?_))
  refine br_f (by decide) (br_t (by decide) (nm_r (e' := 5) (by decide) ?_))
  refine br_t (by decide) (nm_e ?_)
  refine br_f (by decide) (sj_re h0 h1 (by decide) (by decide) (by decide) ?_)
  refine br_f (by decide) (sj_re h0 h1 (by decide) (by decide) (by decide) ?_)
  refine br_f (by decide) (sj_re h0 h1 (by decide) (by decide) (by decide) ?_)
  refine br_f (by decide) (sj_re h0 h1 (by decide) (by decide) (by decide) ?_)
  exact br_t (by decide) H
theorem sj_link01 {post : Int32 → St2 → Prop} {R p : Nat} {h : Bool} {D : Nat} (K : sj_K R p h D 0 a1 a2 a3 a4 a5 a6)
    (H1 : sj_w R p h D 1 ≤ 100 → ∀ (pc be : Int32) (a6 a7 a8 : Nat → Int32), sj_K R p h D 1 a1 a2 a3 a4 a5 a6 → post 0 (4, 100, 3, (-1), fb, pc, be, a1, a2, a3, a4, a5, a6, a7, a8))
    (H0 : 100 < sj_w R p h D 1 → ∀ (pc be : Int32) (a6 a7 a8 : Nat → Int32), sj_K R p h D 0 a1 a2 a3 a4 a5 a6 → post (-3) (4, 100, 3, (-1), fb, pc, be, a1, a2, a3, a4, a5, a6, a7, a8)) :
    wpX_link post (4, 100, 3, (-1), fb, pc, be, a1, a2, a3, a4, a5, a6, a7, a8) 0 1 := by
  obtain ⟨k1, k2, k3, k4, k5, ⟨k60, k61⟩, hf, hR, hp, hD⟩ := K
  have g0 : a6 0 = 0 := k60
  have g1 : a6 1 = 0 := k61
  unfold wpX_link
  refine sj_h0 (br_f (by decide) (sj_h1 (br_f (by decide) (br_f (by decide) (sj_li01F g0 (br_t rfl ?_))))))
  refine sj_reF (s := 2) (by decide) (fun z => absurd (by decide) z) (fun _ => by rw [g1]; decide) (by decide) (by decide) (by decide) (br_t (by decide) ⟨sj_i0, sj_i0, ?_⟩)
  refine nm_r (e' := upd a6 0 2) (by rw [sb_cl0, g0]; exact congrArg (upd a6 0) (by decide)) ?_
  have K' : sj_K R p h D 1 a1 a2 a3 a4 a5 (upd a6 0 2) := ⟨k1, k2, k3, k4, k5, ⟨pk_us, by rw [pk_un (by decide)]; exact g1⟩, by decide, hR, hp, hD⟩
  refine sj_wc (sj_Kw K') (by decide) (sj_wb hR hp) (fun y pc be a7 a8 => br_f (by decide) (H1 y _ _ _ _ _ K')) (fun y pc be a7 a8 => br_t rfl ⟨sj_i0, sj_i0, ?_⟩)
  refine nm_r (e' := upd (upd a6 0 2) 0 0) (by rw [sb_cl0, pk_us]; exact congrArg (upd (upd a6 0 2) 0) (by decide)) (H0 y _ _ _ _ _ ?_)
  exact ⟨k1, k2, k3, k4, k5, ⟨pk_us, by rw [pk_un (by decide), pk_un (by decide)]; exact g1⟩, hf, hR, hp, hD⟩
theorem sj_link10 {post : Int32 → St2 → Prop} {R p : Nat} {h : Bool} {D : Nat} (K : sj_K R p h D 0 a1 a2 a3 a4 a5 a6)
    (H1 : sj_w R p h D 2 ≤ 100 → ∀ (pc be : Int32) (a6 a7 a8 : Nat → Int32), sj_K R p h D 2 a1 a2 a3 a4 a5 a6 → post 0 (4, 100, 3, (-1), fb, pc, be, a1, a2, a3, a4, a5, a6, a7, a8))
    (H0 : 100 < sj_w R p h D 2 → ∀ (pc be : Int32) (a6 a7 a8 : Nat → Int32), sj_K R p h D 0 a1 a2 a3 a4 a5 a6 → post (-3) (4, 100, 3, (-1), fb, pc, be, a1, a2, a3, a4, a5, a6, a7, a8)) :
    wpX_link post (4, 100, 3, (-1), fb, pc, be, a1, a2, a3, a4, a5, a6, a7, a8) 1 0 := by
  obtain ⟨k1, k2, k3, k4, k5, ⟨k60, k61⟩, hf, hR, hp, hD⟩ := K
  have g0 : a6 0 = 0 := k60
  have g1 : a6 1 = 0 := k61
  unfold wpX_link
  refine sj_h1 (br_f (by decide) (sj_h0 (br_f (by decide) (br_f (by decide) (sj_li10F g1 (br_t rfl ?_))))))
  refine sj_reF (s := 1) (by decide) (fun _ => by rw [g0]; decide) (fun z => absurd (by decide) z) (by decide) (by decide) (by decide) (br_t (by decide) ⟨sj_i1, sj_i1, ?_⟩)
  refine nm_r (e' := upd a6 1 1) (by rw [sj_c1, g1]; exact congrArg (upd a6 1) (by decide)) ?_
  have K' : sj_K R p h D 2 a1 a2 a3 a4 a5 (upd a6 1 1) := ⟨k1, k2, k3, k4, k5, ⟨by rw [pk_un (by decide)]; exact g0, pk_us⟩, by decide, hR, hp, hD⟩
  refine sj_wc (sj_Kw K') (by decide) (sj_wb hR hp) (fun y pc be a7 a8 => br_f (by decide) (H1 y _ _ _ _ _ K')) (fun y pc be a7 a8 => br_t rfl ⟨sj_i1, sj_i1, ?_⟩)
  refine nm_r (e' := upd (upd a6 1 1) 1 0) (by rw [sj_c1, pk_us]; exact congrArg (upd (upd a6 1 1) 1) (by decide)) (H0 y _ _ _ _ _ ?_)
  exact ⟨k1, k2, k3, k4, k5, ⟨by rw [pk_un (by decide), pk_un (by decide)]; exact g0, pk_us⟩, hf, hR, hp, hD⟩
theorem sj_link10C {post : Int32 → St2 → Prop} {R p : Nat} {h : Bool} {D : Nat} (K : sj_K R p h D 1 a1 a2 a3 a4 a5 a6) (H : post (-4) (4, cap, 3, fo, fb, pc, be, a1, a2, a3, a4, a5, a6, a7, a8)) : wpX_link post (4, cap, 3, fo, fb, pc, be, a1, a2, a3, a4, a5, a6, a7, a8) 1 0 := by
  obtain ⟨k1, k2, k3, k4, k5, ⟨k60, k61⟩, hf, hR, hp, hD⟩ := K
  have g0 : a6 0 = 2 := k60
  have g1 : a6 1 = 0 := k61
  unfold wpX_link
  refine sj_h1 (br_f (by decide) (sj_h0 (br_f (by decide) (br_f (by decide) (sj_li10F g1 (br_t rfl ?_))))))
  exact sj_reL g0 g1 (br_f (by decide) H)
theorem sj_unl {post : Int32 → St2 → Prop} {R p : Nat} {h : Bool} {D : Nat} (K : sj_K R p h D 1 a1 a2 a3 a4 a5 a6) (H : ∀ a6 : Nat → Int32, sj_K R p h D 0 a1 a2 a3 a4 a5 a6 → post 1 (4, cap, 3, fo, fb, pc, be, a1, a2, a3, a4, a5, a6, a7, a8)) : wpX_unlink post (4, cap, 3, fo, fb, pc, be, a1, a2, a3, a4, a5, a6, a7, a8) 0 1 := by
  obtain ⟨k1, k2, k3, k4, k5, ⟨k60, k61⟩, hf, hR, hp, hD⟩ := K
  have g0 : a6 0 = 2 := k60
  have g1 : a6 1 = 0 := k61
  unfold wpX_unlink
  refine sj_li01T g0 (br_f (by decide) ⟨sj_i0, sj_i0, nm_r (e' := upd a6 0 0) (by rw [sb_cl0, g0]; exact congrArg (upd a6 0) (by decide)) (H _ ?_)⟩)
  exact ⟨k1, k2, k3, k4, k5, ⟨pk_us, by rw [pk_un (by decide)]; exact g1⟩, by decide, hR, hp, hD⟩
theorem sj_could {post : Int32 → St2 → Prop} {R p : Nat} {h : Bool} {D : Nat} (K : sj_K R p h D 0 a1 a2 a3 a4 a5 a6)
    (H : ∀ (x : Int32) (pc be : Int32) (a6 a7 a8 : Nat → Int32), x = (if sj_w R p h D 1 ≤ 100 then 1 else 0) → sj_K R p h D 0 a1 a2 a3 a4 a5 a6 → post x (4, 100, 3, (-1), fb, pc, be, a1, a2, a3, a4, a5, a6, a7, a8)) :
    wpX_couldPrecede post (4, 100, 3, (-1), fb, pc, be, a1, a2, a3, a4, a5, a6, a7, a8) 0 1 := by
  have g0 : a6 0 = 0 := K.2.2.2.2.2.1.1
  unfold wpX_couldPrecede
  refine sj_li01F g0 (sj_link01 K (fun y pc be a6 a7 a8 K' => ?_) (fun y pc be a6 a7 a8 K' => ?_))
  · refine br_t rfl (br_t rfl (sj_unl K' (fun a6 K'' => ?_)))
    exact br_t rfl (H _ _ _ _ _ _ (by rw [if_pos y]) K'')
  · exact br_f (by decide) (br_f (by decide) (H _ _ _ _ _ _ (by rw [if_neg (by omega)]) K'))
theorem sj_linkB01 {post : Int32 → St2 → Prop} (H : post (-1) (4, cap, 1, fo, fb, pc, be, a1, a2, a3, a4, a5, a6, a7, a8)) : wpX_link post (4, cap, 1, fo, fb, pc, be, a1, a2, a3, a4, a5, a6, a7, a8) 0 1 := by
  unfold wpX_link
  exact sj_g0 (br_f (by decide) (sj_g1 (br_t rfl H)))
theorem sj_linkB10 {post : Int32 → St2 → Prop} (H : post (-1) (4, cap, 1, fo, fb, pc, be, a1, a2, a3, a4, a5, a6, a7, a8)) : wpX_link post (4, cap, 1, fo, fb, pc, be, a1, a2, a3, a4, a5, a6, a7, a8) 1 0 := by
  unfold wpX_link
  exact sj_g1 (br_t rfl H)
theorem sj_couldB {post : Int32 → St2 → Prop} (H : post 0 (4, cap, 1, fo, fb, pc, be, a1, a2, a3, a4, a5, a6, a7, a8)) : wpX_couldPrecede post (4, cap, 1, fo, fb, pc, be, a1, a2, a3, a4, a5, a6, a7, a8) 0 1 := by
  unfold wpX_couldPrecede
  exact sj_liB (sj_linkB01 (br_f (by decide) (br_f (by decide) H)))
theorem sj_rule {post : St2 → Prop} {i k d w : Int32} {j : Nat} (hi : vp_in i 5) (hj : i.toNatClampNeg = j) (hk : k.toInt8.toInt32 = k) (hd : d.toInt8.toInt32 = d) (hw : w.toInt8.toInt32 = w)
    (H : post (cp, cap, pr, fo, fb, pc, be, a1, a2, upd a3 j k, upd a4 j d, upd a5 j w, a6, a7, a8)) : wpX_rule post (cp, cap, pr, fo, fb, pc, be, a1, a2, a3, a4, a5, a6, a7, a8) i k d w := by
  subst hj
  unfold wpX_rule
  exact ⟨hi, nm_r (e' := upd a3 i.toNatClampNeg k) (by rw [hk]) ⟨hi, nm_r (e' := upd a4 i.toNatClampNeg d) (by rw [hd]) ⟨hi, nm_r (e' := upd a5 i.toNatClampNeg w) (by rw [hw]) H⟩⟩⟩
/-- the first job: add(0, 3) over the new planner -/
theorem sj_add0 {post : Int32 → St2 → Prop} (h11 : a1 1 = 0) (H : ∀ (pc be : Int32) (a1 a2 a3 a4 a5 a6 a7 a8 : Nat → Int32), sj_K1 a1 a2 a3 a4 a5 a6 → post 0 (4, 100, 1, (-1), fb, pc, be, a1, a2, a3, a4, a5, a6, a7, a8)) :
    wpX_add post (4, 100, 0, (-1), fb, pc, be, a1, a2, a3, a4, a5, a6, a7, a8) 0 3 := by
  unfold wpX_add
  refine br_f (by decide) (br_f (by decide) (br_f (by decide) (br_t (by decide) ?_)))
  unfold wpX_enter wpX_freeNumber
  refine ⟨2, br_f (by decide) (br_t (by decide) (br_t (by decide) ⟨sj_i0, ?_⟩))⟩
  refine nm_r (e' := upd a1 0 (nI 0)) (by rw [sb_cl0]; exact congrArg (upd a1 0) (by decide)) ⟨sj_i0, nm_r (e' := upd a2 0 (nI 3)) (by rw [sb_cl0]; exact congrArg (upd a2 0) (by decide)) ⟨sj_i0, nm_r (e' := upd a6 0 0) (by rw [sb_cl0]) ?_⟩⟩
  refine sj_rule sj_i0 sb_cl0 (by decide) (by decide) (by decide) (nm_r (e' := 1) (by decide) ?_)
  have K : sj_K1 (upd a1 0 (nI 0)) (upd a2 0 (nI 3)) (upd a3 0 0) (upd a4 0 0) (upd a5 0 1) (upd a6 0 0) := ⟨⟨pk_us, by rw [pk_un (by decide)]; exact h11⟩, pk_us, pk_us, pk_us, pk_us, pk_us⟩
  exact sj_wc (sj_K1w K) (by decide) (by decide) (fun _ pc be a7 a8 => br_f (by decide) (H _ _ _ _ _ _ _ _ _ _ K)) (fun y => absurd y (by decide))
/-- the second job: add(r, p) in range -/
theorem sj_add1 {post : Int32 → St2 → Prop} {r p : Nat} (hr : r < 10) (hp : p < 4) (h1 : 1 ≤ p) (hw : sj_w r p false 0 0 ≤ 100) (K : sj_K1 a1 a2 a3 a4 a5 a6)
    (H : ∀ (pc be : Int32) (a1 a2 a3 a4 a5 a6 a7 a8 : Nat → Int32), sj_K r p false 0 0 a1 a2 a3 a4 a5 a6 → post 1 (4, 100, 3, (-1), fb, pc, be, a1, a2, a3, a4, a5, a6, a7, a8)) :
    wpX_add post (4, 100, 1, (-1), fb, pc, be, a1, a2, a3, a4, a5, a6, a7, a8) (nI r) (nI p) := by
  obtain ⟨⟨k10, k11⟩, k20, k30, k40, k50, k60⟩ := K
  unfold wpX_add
  refine br_f (nI_pos (by omega)) (pk_lt 9 r (fun z => absurd z (by omega)) (fun _ => pk_lt p 1 (fun z => absurd z (by omega)) (fun _ => pk_le p 3 (fun _ => ?_) (fun z => absurd z (by omega)))))
  unfold wpX_enter wpX_freeNumber
  refine ⟨3, br_f (by decide) (br_f (by decide) (nm_r (e' := 1) (by decide) ?_))⟩
  refine br_f (by decide) (br_t (by decide) (br_t (by decide) ⟨sj_i1, ?_⟩))
  refine nm_r (e' := upd a1 1 (nI r)) (by rw [sj_c1, sj_b8 r (by omega)]) ⟨sj_i1, nm_r (e' := upd a2 1 (nI p)) (by rw [sj_c1, sj_b8 p (by omega)]) ⟨sj_i1, nm_r (e' := upd a6 1 0) (by rw [sj_c1]) ?_⟩⟩
  refine sj_rule sj_i1 sj_c1 (by decide) (by decide) (by decide) (nm_r (e' := 3) (by decide) ?_)
  have K : sj_K r p false 0 0 (upd a1 1 (nI r)) (upd a2 1 (nI p)) (upd a3 1 0) (upd a4 1 0) (upd a5 1 1) (upd a6 1 0) :=
    ⟨⟨by rw [pk_un (by decide)]; exact k10, pk_us⟩, ⟨by rw [pk_un (by decide)]; exact k20, pk_us⟩, ⟨by rw [pk_un (by decide)]; exact k30, pk_us⟩, ⟨by rw [pk_un (by decide)]; exact k40, pk_us⟩, ⟨by rw [pk_un (by decide)]; exact k50, pk_us⟩, ⟨by rw [pk_un (by decide)]; exact k60, pk_us⟩, by decide, by omega, by omega, by decide⟩
  exact sj_wc (sj_Kw K) (by decide) (sj_wb (by omega) (by omega)) (fun _ pc be a7 a8 => br_f (by decide) (H _ _ _ _ _ _ _ _ _ _ K)) (fun y => absurd y (by omega))
/-- a call of add out of range -/
theorem sj_addB {post : Int32 → St2 → Prop} {r p : Int32} (hb : r < 0 ∨ 9 < r ∨ p < 1 ∨ ¬ p ≤ 3) (H : post (-1) (cp, cap, pr, fo, fb, pc, be, a1, a2, a3, a4, a5, a6, a7, a8)) : wpX_add post (cp, cap, pr, fo, fb, pc, be, a1, a2, a3, a4, a5, a6, a7, a8) r p := by
  unfold wpX_add
  exact br_c (fun _ => H) (fun z1 => br_c (fun _ => H) (fun z2 => br_c (fun _ => H) (fun z3 => br_c (fun z4 => absurd hb (by
    intro hb
    rcases hb with h | h | h | h
    · exact z1 h
    · exact z2 h
    · exact z3 h
    · exact h z4)) (fun _ => H))))
/-- setRule(1, HARD, d, 1) over job 1 as it was entered -/
theorem sj_set {post : Int32 → St2 → Prop} {r p : Nat} {d : Int32} (K : sj_K r p false 0 0 a1 a2 a3 a4 a5 a6)
    (H : ∀ (x : Int32) (h : Bool) (D : Nat) (pc be : Int32) (a1 a2 a3 a4 a5 a6 a7 a8 : Nat → Int32),
      (((d < 0 ∨ 30 < d) ∧ x = -1 ∧ h = false ∧ D = 0) ∨ (∃ n, n < 31 ∧ d = nI n ∧ 100 < sj_w r p true n 0 ∧ x = -3 ∧ h = false ∧ D = 0) ∨ (∃ n, n < 31 ∧ d = nI n ∧ sj_w r p true n 0 ≤ 100 ∧ x = 0 ∧ h = true ∧ D = n)) →
      sj_K r p h D 0 a1 a2 a3 a4 a5 a6 → post x (4, 100, 3, (-1), fb, pc, be, a1, a2, a3, a4, a5, a6, a7, a8)) : wpX_setRule post (4, 100, 3, (-1), fb, pc, be, a1, a2, a3, a4, a5, a6, a7, a8) 1 3 d 1 := by
  unfold wpX_setRule
  refine sj_h1 (br_f (by decide) (br_f (by decide) (br_f (by decide) (br_c (fun z => H _ _ _ _ _ _ _ _ _ _ _ _ _ (Or.inl ⟨Or.inl z, rfl, rfl, rfl⟩) K) (fun z1 => br_c (fun z => H _ _ _ _ _ _ _ _ _ _ _ _ _ (Or.inl ⟨Or.inr z, rfl, rfl, rfl⟩) K) (fun z2 => br_f (by decide) (br_t (by decide) ?_)))))))
  obtain ⟨n, hn, rfl⟩ := nI_of2 (M := 30) (n := 30) (by decide) z1 (Int32.not_lt.mp z2)
  obtain ⟨⟨k10, k11⟩, ⟨k20, k21⟩, ⟨k30, k31⟩, ⟨k40, k41⟩, ⟨k50, k51⟩, ⟨k60, k61⟩, hf, hR, hp, hD⟩ := K
  have g3 : a3 1 = 0 := k31
  have g4 : a4 1 = 0 := k41
  refine ⟨sj_i1, nm_r (e' := 0) (by rw [sj_c1]; exact g3) ⟨sj_i1, nm_r (e' := 0) (by rw [sj_c1]; exact g4) ⟨sj_i1, nm_r (e' := 1) (by rw [sj_c1]; exact k51) ?_⟩⟩⟩
  refine sj_rule sj_i1 sj_c1 (by decide) (sj_b8 n (by omega)) (by decide) ?_
  have K' : sj_K r p true n 0 a1 a2 (upd a3 1 3) (upd a4 1 (nI n)) (upd a5 1 1) a6 :=
    ⟨⟨k10, k11⟩, ⟨k20, k21⟩, ⟨by rw [pk_un (by decide)]; exact k30, pk_us⟩, ⟨by rw [pk_un (by decide)]; exact k40, pk_us⟩, ⟨by rw [pk_un (by decide)]; exact k50, pk_us⟩, ⟨k60, k61⟩, hf, hR, hp, by omega⟩
  refine sj_wc (sj_Kw K') (by decide) (sj_wb hR hp) (fun y pc be a7 a8 => br_f (by decide) ?_) (fun y pc be a7 a8 => br_t rfl ?_)
  · exact H _ _ _ _ _ _ _ _ _ _ _ _ _ (Or.inr (Or.inr ⟨n, by omega, rfl, y, rfl, rfl, rfl⟩)) K'
  · refine sj_rule sj_i1 sj_c1 (by decide) (by decide) (by decide) (H _ _ _ _ _ _ _ _ _ _ _ _ _ (Or.inr (Or.inl ⟨n, by omega, rfl, y, rfl, rfl, rfl⟩)) ?_)
    exact ⟨⟨k10, k11⟩, ⟨k20, k21⟩, ⟨by rw [pk_un (by decide), pk_un (by decide)]; exact k30, pk_us⟩, ⟨by rw [pk_un (by decide), pk_un (by decide)]; exact k40, pk_us⟩, ⟨by rw [pk_un (by decide), pk_un (by decide)]; exact k50, pk_us⟩, ⟨k60, k61⟩, hf, hR, hp, hD⟩
theorem sj_setB {post : Int32 → St2 → Prop} {k d w : Int32} (H : post (-1) (4, cap, 1, fo, fb, pc, be, a1, a2, a3, a4, a5, a6, a7, a8)) : wpX_setRule post (4, cap, 1, fo, fb, pc, be, a1, a2, a3, a4, a5, a6, a7, a8) 1 k d w := by
  unfold wpX_setRule
  exact sj_g1 (br_t rfl H)
end
end
section
/-- the answers while job 1 is late from 0 on -/
def sj_tA (r p : Nat) : Bool :=
  Nat.ble (sj_w r p false 0 0) 100 && (Nat.beq (sj_w r p false 0 0) (max 3 r + p) && (Nat.beq (sj_ef (sj_w0 r p false 0 0) 7 1 60) 3 && (Nat.beq (sj_ef (sj_w1 r p false 0 0) 7 1 60) (r + p) && (Nat.beq (sj_de (fun R => sj_w R p false 0 0) r 9 0) 9 &&
    (Nat.ble (sj_w r p false 0 1) 100 && (Nat.beq (sj_ef (sj_w0 r p false 0 1) 7 1 60) 3 && Nat.beq (sj_ef (sj_w1 r p false 0 1) 7 1 60) (max 3 r + p)))))))
theorem sj_tA_all : ∀ r, r < 10 → ∀ p, p < 3 → sj_tA r (p + 1) = true := by decide +kernel
theorem sj_pA {r p : Nat} (hr : r < 10) (hp : p < 4) (h1 : 1 ≤ p) :
    sj_w r p false 0 0 ≤ 100 ∧ sj_w r p false 0 0 = max 3 r + p ∧ sj_ef (sj_w0 r p false 0 0) 7 1 60 = 3 ∧ sj_ef (sj_w1 r p false 0 0) 7 1 60 = r + p ∧ sj_de (fun R => sj_w R p false 0 0) r 9 0 = 9 ∧
      sj_w r p false 0 1 ≤ 100 ∧ sj_ef (sj_w0 r p false 0 1) 7 1 60 = 3 ∧ sj_ef (sj_w1 r p false 0 1) 7 1 60 = max 3 r + p := by
  have t := sj_tA_all r hr (p - 1) (by omega)
  rw [show p - 1 + 1 = p by omega] at t
  unfold sj_tA at t
  simpa only [Bool.and_eq_true, Nat.ble_eq, Nat.beq_eq] using t
/-- the answers while job 1 is hard and due d -/
def sj_tB (r p d : Nat) : Bool :=
  if r + p ≤ d then
    Nat.beq (sj_w r p true d 0) (if max 3 r + p ≤ d then 3 else 3 + p) && (Nat.beq (sj_ef (sj_w0 r p true d 0) 7 1 60) (if max 3 r + p ≤ d then 3 else 3 + p) && (Nat.beq (sj_ef (sj_w1 r p true d 0) 7 1 60) (r + p) && (Nat.beq (sj_de (fun R => sj_w R p true d 0) r 9 0) (min 9 (d - p - r)) &&
      (if max 3 r + p ≤ d then Nat.ble (sj_w r p true d 1) 100 && (Nat.beq (sj_ef (sj_w0 r p true d 1) 7 1 60) 3 && Nat.beq (sj_ef (sj_w1 r p true d 1) 7 1 60) (max 3 r + p))
      else Nat.ble 101 (sj_w r p true d 1) && (Nat.ble (sj_w r p true d 2) 100 && (Nat.beq (sj_ef (sj_w0 r p true d 2) 7 1 60) (r + p + 3) && Nat.beq (sj_ef (sj_w1 r p true d 2) 7 1 60) (r + p)))))))
  else Nat.ble 101 (sj_w r p true d 0)
theorem sj_tB_all : ∀ r, r < 10 → ∀ p, p < 3 → ∀ d, d < 31 → sj_tB r (p + 1) d = true := by decide +kernel
theorem sj_pN {r p d : Nat} (hr : r < 10) (hp : p < 4) (h1 : 1 ≤ p) (hd : d < 31) (hw : sj_w r p true d 0 ≤ 100) : r + p ≤ d := by
  have t := sj_tB_all r hr (p - 1) (by omega) d hd
  rw [show p - 1 + 1 = p by omega] at t
  unfold sj_tB at t
  by_cases z : r + p ≤ d
  · exact z
  · rw [if_neg z, Nat.ble_eq] at t
    omega
theorem sj_pX {r p d : Nat} (hr : r < 10) (hp : p < 4) (h1 : 1 ≤ p) (hd : d < 31) (hw : 100 < sj_w r p true d 0) : d < r + p := by
  have t := sj_tB_all r hr (p - 1) (by omega) d hd
  rw [show p - 1 + 1 = p by omega] at t
  unfold sj_tB at t
  by_cases z : r + p ≤ d
  · rw [if_pos z, Bool.and_eq_true, Nat.beq_eq] at t
    have e := t.1
    by_cases y : max 3 r + p ≤ d
    · rw [if_pos y] at e
      omega
    · rw [if_neg y] at e
      omega
  · omega
theorem sj_p1 {r p d : Nat} (hr : r < 10) (hp : p < 4) (h1 : 1 ≤ p) (hd : d < 31) (z : r + p ≤ d) (hl : sj_w r p true d 1 ≤ 100) :
    max 3 r + p ≤ d ∧ sj_w r p true d 0 = 3 ∧ sj_ef (sj_w0 r p true d 0) 7 1 60 = 3 ∧ sj_ef (sj_w1 r p true d 0) 7 1 60 = r + p ∧ sj_de (fun R => sj_w R p true d 0) r 9 0 = min 9 (d - p - r) ∧
      sj_ef (sj_w0 r p true d 1) 7 1 60 = 3 ∧ sj_ef (sj_w1 r p true d 1) 7 1 60 = max 3 r + p := by
  have t := sj_tB_all r hr (p - 1) (by omega) d hd
  rw [show p - 1 + 1 = p by omega] at t
  unfold sj_tB at t
  by_cases y : max 3 r + p ≤ d
  · rw [if_pos z, if_pos y, if_pos y] at t
    simp only [Bool.and_eq_true, Nat.ble_eq, Nat.beq_eq] at t
    exact ⟨y, t.1, t.2.1, t.2.2.1, t.2.2.2.1, t.2.2.2.2.2.1, t.2.2.2.2.2.2⟩
  · rw [if_pos z, if_neg y, if_neg y] at t
    simp only [Bool.and_eq_true, Nat.ble_eq, Nat.beq_eq] at t
    have e := t.2.2.2.2.1
    omega
theorem sj_p2 {r p d : Nat} (hr : r < 10) (hp : p < 4) (h1 : 1 ≤ p) (hd : d < 31) (z : r + p ≤ d) (hl : 100 < sj_w r p true d 1) :
    d < max 3 r + p ∧ sj_w r p true d 0 = 3 + p ∧ sj_ef (sj_w0 r p true d 0) 7 1 60 = 3 + p ∧ sj_ef (sj_w1 r p true d 0) 7 1 60 = r + p ∧ sj_de (fun R => sj_w R p true d 0) r 9 0 = min 9 (d - p - r) ∧
      sj_w r p true d 2 ≤ 100 ∧ sj_ef (sj_w0 r p true d 2) 7 1 60 = r + p + 3 ∧ sj_ef (sj_w1 r p true d 2) 7 1 60 = r + p := by
  have t := sj_tB_all r hr (p - 1) (by omega) d hd
  rw [show p - 1 + 1 = p by omega] at t
  unfold sj_tB at t
  by_cases y : max 3 r + p ≤ d
  · rw [if_pos z, if_pos y, if_pos y] at t
    simp only [Bool.and_eq_true, Nat.ble_eq, Nat.beq_eq] at t
    have e := t.2.2.2.2.1
    omega
  · rw [if_pos z, if_neg y, if_neg y] at t
    simp only [Bool.and_eq_true, Nat.ble_eq, Nat.beq_eq] at t
    exact ⟨by omega, t.1, t.2.1, t.2.2.1, t.2.2.2.1, t.2.2.2.2.2.1, t.2.2.2.2.2.2.1, t.2.2.2.2.2.2.2⟩
end
section
section
variable {post : Int32 → St0 → Prop} {mc ms kc ks : Nat} {x0 x1 x2 x4 x5 x6 x7 x8 x9 x10 x11 x12 x13 x14 x15 x16 x17 x18 x19 x20 x22 x23 x24 x25 x26 : Int32}
theorem sj_e518 {z0 z1 : Int32} (H : post 1 ()) (hz : z1 = z0) (h17 : x17 = if x26 = 0 then x0 + x1 else x18) : wL_lawOf_518 post mc ms x0 x1 x17 x18 x26 z0 z1 kc ks := by
  unfold wL_lawOf_518
  refine br_t hz (br_c (fun z => ?_) (fun z => ?_))
  · rw [if_pos z] at h17
    exact br_t h17 H
  · rw [if_neg z] at h17
    exact br_t h17 H
theorem sj_e499 {z0 z1 : Int32} (H : post 1 ()) (hz : z1 = z0) (h16 : x16 = if x26 = 0 then x0 + x1 + 3 else 3) (h17 : x17 = if x26 = 0 then x0 + x1 else x18) : wL_lawOf_499 post mc ms x0 x1 x16 x17 x18 x26 z0 z1 kc ks := by
  unfold wL_lawOf_499
  refine br_t hz (br_c (fun z => ?_) (fun z => ?_))
  · rw [if_pos z] at h16
    exact sj_e518 H h16 h17
  · rw [if_neg z] at h16
    exact sj_e518 H h16 h17
theorem sj_e483 {z0 z1 : Int32} (H : post 1 ()) (hz : z1 = z0) (h15 : x15 = if x26 = 0 then 0 else -4) (h16 : x16 = if x26 = 0 then x0 + x1 + 3 else 3) (h17 : x17 = if x26 = 0 then x0 + x1 else x18) : wL_lawOf_483 post mc ms x0 x1 x15 x16 x17 x18 x26 z0 z1 kc ks := by
  unfold wL_lawOf_483
  refine br_t hz (br_c (fun z => ?_) (fun z => ?_))
  · rw [if_pos z] at h15
    exact sj_e499 H h15 h16 h17
  · rw [if_neg z] at h15
    exact sj_e499 H h15 h16 h17
theorem sj_e460 {z0 z1 : Int32} (H : post 1 ()) (hz : z1 = z0) (h13 : x13 = x26) (h14 : x14 = if x26 = 0 then -3 else 0) (h15 : x15 = if x26 = 0 then 0 else -4) (h16 : x16 = if x26 = 0 then x0 + x1 + 3 else 3) (h17 : x17 = if x26 = 0 then x0 + x1 else x18) : wL_lawOf_460 post mc ms x0 x1 x13 x14 x15 x16 x17 x18 x26 z0 z1 kc ks := by
  unfold wL_lawOf_460
  refine br_t hz (br_t h13 (br_c (fun z => ?_) (fun z => ?_)))
  · rw [if_pos z] at h14
    exact sj_e483 H h14 h15 h16 h17
  · rw [if_neg z] at h14
    exact sj_e483 H h14 h15 h16 h17
theorem sj_e405 {z0 z1 : Int32} (H : post 1 ()) (hz : z1 = z0) (h7 : x7 = x22) (h8 : x8 = x0 + x1) (h9 : x9 = x23) (h10 : x10 = x24) (h11 : x11 = x18) (h12 : x12 = if x25 ≤ 9 then x25 else 9)
    (h13 : x13 = x26) (h14 : x14 = if x26 = 0 then -3 else 0) (h15 : x15 = if x26 = 0 then 0 else -4) (h16 : x16 = if x26 = 0 then x0 + x1 + 3 else 3) (h17 : x17 = if x26 = 0 then x0 + x1 else x18) :
    wL_lawOf_405 post mc ms x0 x1 x7 x8 x9 x10 x11 x12 x13 x14 x15 x16 x17 x18 x22 x23 x24 x25 x26 z0 z1 kc ks := by
  unfold wL_lawOf_405
  refine br_t hz (br_t h7 (br_t h8 (br_t h9 (br_t h10 (br_t h11 (br_c (fun z => ?_) (fun z => ?_)))))))
  · rw [if_pos z] at h12
    exact sj_e460 H h12 h13 h14 h15 h16 h17
  · rw [if_neg z] at h12
    exact sj_e460 H h12 h13 h14 h15 h16 h17
theorem sj_e370 (H : post 1 ()) (h4 : x4 = 0) (h5 : x5 = 1) (h6 : x6 = if x19 = 0 then -1 else if x20 = 0 then -3 else 0) (h7 : x7 = x22) (h8 : x8 = x0 + x1) (h9 : x9 = x23) (h10 : x10 = x24) (h11 : x11 = x18) (h12 : x12 = if x25 ≤ 9 then x25 else 9)
    (h13 : x13 = x26) (h14 : x14 = if x26 = 0 then -3 else 0) (h15 : x15 = if x26 = 0 then 0 else -4) (h16 : x16 = if x26 = 0 then x0 + x1 + 3 else 3) (h17 : x17 = if x26 = 0 then x0 + x1 else x18) :
    wL_lawOf_370 post mc ms x0 x1 x4 x5 x6 x7 x8 x9 x10 x11 x12 x13 x14 x15 x16 x17 x18 x19 x20 x22 x23 x24 x25 x26 kc ks := by
  unfold wL_lawOf_370
  refine br_t h4 (br_t h5 (br_c (fun z => ?_) (fun z => br_c (fun y => ?_) (fun y => ?_))))
  · rw [if_pos z] at h6
    exact sj_e405 H h6 h7 h8 h9 h10 h11 h12 h13 h14 h15 h16 h17
  · rw [if_neg z, if_pos y] at h6
    exact sj_e405 H h6 h7 h8 h9 h10 h11 h12 h13 h14 h15 h16 h17
  · rw [if_neg z, if_neg y] at h6
    exact sj_e405 H h6 h7 h8 h9 h10 h11 h12 h13 h14 h15 h16 h17
/-- job 1 isn't hard (or d is out of range) -/
theorem sj_e274 (H : post 1 ()) (h4 : x4 = 0) (h5 : x5 = 1) (h6 : x6 = if x19 = 0 then -1 else -3) (h7 : x7 = 3) (h8 : x8 = x0 + x1) (h9 : x9 = x18) (h10 : x10 = x0 + x1) (h11 : x11 = x18) (h12 : x12 = 9)
    (h13 : x13 = 1) (h14 : x14 = 0) (h15 : x15 = -4) (h16 : x16 = 3) (h17 : x17 = x18) :
    wL_lawOf_274 post mc ms x0 x1 x2 x4 x5 x6 x7 x8 x9 x10 x11 x12 x13 x14 x15 x16 x17 x18 x19 0 kc ks := by
  unfold wL_lawOf_274
  refine br_t rfl ?_
  unfold wL_lawOf_288 wL_lawOf_293
  refine br_f (by decide) ?_
  unfold wL_lawOf_307
  refine br_t rfl ?_
  unfold wL_lawOf_321
  refine br_t rfl ?_
  unfold wL_lawOf_335
  refine br_t rfl ?_
  unfold wL_lawOf_352
  refine br_t rfl ?_
  unfold wL_lawOf_365
  exact sj_e370 H h4 h5 h6 h7 h8 h9 h10 h11 (by rw [h12]; decide) h13 (by rw [h14]; decide) (by rw [h15]; decide) (by rw [h16, if_neg (by decide)]) (by rw [h17, if_neg (by decide)])
theorem sj_tBad (H : post 1 ()) (h4 : x4 = 0) (h5 : x5 = 1) (h6 : x6 = -1) (h7 : x7 = 3) (h8 : x8 = x0 + x1) (h9 : x9 = x18) (h10 : x10 = x0 + x1) (h11 : x11 = x18) (h12 : x12 = 9)
    (h13 : x13 = 1) (h14 : x14 = 0) (h15 : x15 = -4) (h16 : x16 = 3) (h17 : x17 = x18) :
    wL_lawOf_254 post mc ms x0 x1 x2 x4 x5 x6 x7 x8 x9 x10 x11 x12 x13 x14 x15 x16 x17 x18 kc ks := by
  unfold wL_lawOf_254 wL_lawOf_255
  refine br_t rfl ?_
  unfold wL_lawOf_273
  exact sj_e274 H h4 h5 h6 h7 h8 h9 h10 h11 h12 h13 h14 h15 h16 h17
theorem sj_tNot (H : post 1 ()) (hd : x2 < x0 + x1) (h4 : x4 = 0) (h5 : x5 = 1) (h6 : x6 = -3) (h7 : x7 = 3) (h8 : x8 = x0 + x1) (h9 : x9 = x18) (h10 : x10 = x0 + x1) (h11 : x11 = x18) (h12 : x12 = 9)
    (h13 : x13 = 1) (h14 : x14 = 0) (h15 : x15 = -4) (h16 : x16 = 3) (h17 : x17 = x18) :
    wL_lawOf_255 post mc ms x0 x1 x2 x4 x5 x6 x7 x8 x9 x10 x11 x12 x13 x14 x15 x16 x17 x18 1 kc ks := by
  unfold wL_lawOf_255
  refine br_f (by decide) (br_t hd ?_)
  unfold wL_lawOf_273
  exact sj_e274 H h4 h5 (by rw [h6]; decide) h7 h8 h9 h10 h11 h12 h13 h14 h15 h16 h17
/-- job 1 is hard and may follow job 0 -/
theorem sj_tH1 {r p d : Nat} (H : post 1 ()) (hr : r < 10) (hp : p < 4) (hd : d < 31) (hl : max 3 r + p ≤ d) (h4 : x4 = 0) (h5 : x5 = 1) (h6 : x6 = 0) (h7 : x7 = 3) (h8 : x8 = nI (r + p)) (h9 : x9 = 3) (h10 : x10 = 0) (h11 : x11 = x18) (h12 : x12 = nI (min 9 (d - p - r)))
    (h13 : x13 = 1) (h14 : x14 = 0) (h15 : x15 = -4) (h16 : x16 = 3) (h17 : x17 = x18) (h18 : x18 = nI (max 3 r + p)) :
    wL_lawOf_255 post mc ms (nI r) (nI p) (nI d) x4 x5 x6 x7 x8 x9 x10 x11 x12 x13 x14 x15 x16 x17 x18 1 kc ks := by
  have hs : nI d - nI p = nI (d - p) := pk_sub (by omega)
  have hs2 : nI d - nI p - nI r = nI (d - p - r) := by rw [hs, pk_sub (by omega)]
  unfold wL_lawOf_255
  refine br_f (by decide) (pk_lt d (r + p) (fun z => absurd z (by omega)) (fun _ => ?_) rfl (nI_add r p))
  unfold wL_lawOf_274
  refine br_f (by decide) (pk_lt (d - p) 3 (fun z => absurd z (by omega)) (fun _ => ?_) hs)
  unfold wL_lawOf_288 wL_lawOf_293
  refine br_f (by decide) ?_
  unfold wL_lawOf_307
  refine br_f (by decide) ?_
  unfold wL_lawOf_321
  refine br_f (by decide) ?_
  unfold wL_lawOf_335
  refine br_f (by decide) ?_
  unfold wL_lawOf_352
  refine br_f (by decide) (pk_lt d (max 3 r + p) (fun z => absurd z (by omega)) (fun _ => ?_) rfl h18)
  unfold wL_lawOf_365
  refine sj_e370 H h4 h5 (by rw [h6]; decide) h7 (by rw [h8, nI_add]) h9 h10 h11 ?_ h13 (by rw [h14]; decide) (by rw [h15]; decide) (by rw [h16, if_neg (by decide)]) (by rw [h17, if_neg (by decide)])
  rw [hs2, h12]
  by_cases z : d - p - r ≤ 9
  · have q : nI (d - p - r) ≤ 9 := nI_le (b := 9) z (by decide)
    rw [if_pos q, show min 9 (d - p - r) = d - p - r by omega]
  · have q : ¬ nI (d - p - r) ≤ 9 := nI_ge (a := 9) (b := d - p - r) (by omega) (by omega)
    rw [if_neg q, show min 9 (d - p - r) = 9 by omega]
    rfl
/-- job 1 is hard and can't wait for job 0 -/
theorem sj_tH0 {r p d : Nat} (H : post 1 ()) (hr : r < 10) (hp : p < 4) (hd : d < 31) (hh : r + p ≤ d) (hl : d < max 3 r + p) (h4 : x4 = 0) (h5 : x5 = 1) (h6 : x6 = 0) (h7 : x7 = nI (3 + p)) (h8 : x8 = nI (r + p)) (h9 : x9 = nI (3 + p)) (h10 : x10 = 0) (h11 : x11 = x18) (h12 : x12 = nI (min 9 (d - p - r)))
    (h13 : x13 = 0) (h14 : x14 = -3) (h15 : x15 = 0) (h16 : x16 = nI (r + p + 3)) (h17 : x17 = nI (r + p)) (h18 : x18 = nI (max 3 r + p)) :
    wL_lawOf_255 post mc ms (nI r) (nI p) (nI d) x4 x5 x6 x7 x8 x9 x10 x11 x12 x13 x14 x15 x16 x17 x18 1 kc ks := by
  have hs : nI d - nI p = nI (d - p) := pk_sub (by omega)
  have hs2 : nI d - nI p - nI r = nI (d - p - r) := by rw [hs, pk_sub (by omega)]
  have h3 : (3 : Int32) + nI p = nI (3 + p) := nI_add 3 p
  unfold wL_lawOf_255
  refine br_f (by decide) (pk_lt d (r + p) (fun z => absurd z (by omega)) (fun _ => ?_) rfl (nI_add r p))
  unfold wL_lawOf_274
  refine br_f (by decide) (pk_lt (d - p) 3 (fun _ => ?_) (fun z => absurd z (by omega)) hs)
  unfold wL_lawOf_293
  refine br_t rfl ?_
  unfold wL_lawOf_307
  refine br_f (by decide) ?_
  unfold wL_lawOf_321
  refine br_f (by decide) ?_
  unfold wL_lawOf_335
  refine br_f (by decide) ?_
  unfold wL_lawOf_352
  refine br_f (by decide) (pk_lt d (max 3 r + p) (fun _ => ?_) (fun z => absurd z (by omega)) rfl h18)
  refine sj_e370 H h4 h5 (by rw [h6]; decide) (by rw [h7, h3]) (by rw [h8, nI_add]) (by rw [h9, h3]) h10 h11 ?_ h13 (by rw [h14]; decide) (by rw [h15]; decide) (by rw [h16, if_pos rfl, nI_add]; exact (nI_add (r + p) 3).symm) (by rw [h17, if_pos rfl, nI_add])
  have q : nI (d - p - r) ≤ 9 := nI_le (b := 9) (by omega) (by decide)
  rw [hs2, h12, if_pos q, show min 9 (d - p - r) = d - p - r by omega]
theorem sj_max {P : Int32 → Prop} {r : Nat} (hr : r < 10) (H : P (nI (max 3 r))) : wpL_max P () 3 (nI r) := by
  unfold wpL_max
  refine pk_le 3 r (fun z => ?_) (fun z => ?_)
  · rw [show max 3 r = r by omega] at H
    exact H
  · rw [show max 3 r = 3 by omega] at H
    exact H
end
end
section
section
theorem sj_run {post : Int32 → St0 → Prop} (x y d : Int32) (H : post 1 ()) : wpL_lawOf post 34 544 () x y d := by
  unfold wpL_lawOf
  refine ⟨by decide, by decide, 33, 529, by decide, by decide, ?_⟩
  unfold wpX_init
  refine ⟨by decide, by decide, by decide, by decide, by decide, by decide, by decide, by decide, by decide, by decide, by decide, by decide, by decide, by decide, by decide, by decide, br_t (by decide) (br_t (by decide) ?_)⟩
  unfold wX_init_86
  refine br_t (by decide) (br_t (by decide) ?_)
  refine sj_add0 rfl (fun pc be a1 a2 a3 a4 a5 a6 a7 a8 K => ?_)
  by_cases hb : x < 0 ∨ 9 < x ∨ y < 1 ∨ ¬ y ≤ 3
  · -- job 1 is refused: one run
    have e : nI (sj_ef (fun m => if 3 ≤ m then 3 else 100000) 7 1 60) = 3 := by decide +kernel
    have b : ∀ m : Nat, (fun m => if 3 ≤ m then 3 else 100000) m ≤ 100000 := fun m => by
      show (if 3 ≤ m then 3 else 100000) ≤ 100000
      split <;> omega
    refine sj_addB hb ?_
    refine sj_setB ?_
    refine sj_efT (w := fun m => if 3 ≤ m then 3 else 100000) (by decide) (by decide) (by decide) (by decide) (fun m hm => sj_K1w0 K hm) b (fun fb pc be a7 a8 => ?_)
    refine sj_efF (by decide) (by decide) (by decide) ?_
    refine sj_wo (by decide) (sj_K1w K) (fun pc be a7 a8 => ?_)
    refine sj_ww1 ?_
    refine sj_sp1 K (fun be a7 => ?_)
    refine sj_deF (by decide) (by decide) (by decide) ?_
    refine sj_couldB ?_
    refine sj_linkB01 ?_
    refine sj_linkB10 ?_
    refine sj_efT (w := fun m => if 3 ≤ m then 3 else 100000) (by decide) (by decide) (by decide) (by decide) (fun m hm => sj_K1w0 K hm) b (fun fb pc be a7 a8 => ?_)
    refine sj_efF (by decide) (by decide) (by decide) ?_
    rw [e]
    have E : ∀ kc ks : Nat, wL_lawOf_135 post 34 544 0 (-1) (-1) 3 (-2000) (nI 3) (-2000) 3 (-2000) 0 (-1) (-1) 3 (-2000) kc ks := fun kc ks =>
      br_t rfl (br_t rfl (br_t rfl (br_t rfl (br_t rfl (br_t rfl (br_t rfl (br_t rfl (br_t rfl (br_t rfl (br_t rfl (br_t rfl (br_t rfl (br_t rfl H)))))))))))))
    refine br_c (fun _ => E _ _) (fun z1 => br_c (fun _ => E _ _) (fun z2 => br_c (fun _ => E _ _) (fun z3 => br_c (fun z4 => ?_) (fun _ => E _ _))))
    rcases hb with h | h | h | h
    · exact absurd h z1
    · exact absurd h z2
    · exact absurd h z3
    · exact absurd z4 h
  · -- both jobs are in
    have q1 : ¬ x < 0 := fun z => hb (Or.inl z)
    have q2 : ¬ 9 < x := fun z => hb (Or.inr (Or.inl z))
    have q3 : ¬ y < 1 := fun z => hb (Or.inr (Or.inr (Or.inl z)))
    have q4 : ¬ ¬ y ≤ 3 := fun z => hb (Or.inr (Or.inr (Or.inr z)))
    obtain ⟨r, hr, rfl⟩ := nI_of2 (M := 9) (n := 9) (by decide) q1 (Int32.not_lt.mp q2)
    obtain ⟨p, hp, rfl⟩ := nI_of2 (M := 3) (n := 3) (by decide) (fun z => q3 (Int32.lt_trans z (by decide))) (Classical.not_not.mp q4)
    have hr : r < 10 := by omega
    have hp : p < 4 := by omega
    have h1 : 1 ≤ p := by
      rcases Nat.eq_zero_or_pos p with z | z
      · subst z
        exact absurd (by decide) q3
      · exact z
    obtain ⟨A1, A2, A3, A4, A5, A6, A7, A8⟩ := sj_pA hr hp h1
    refine sj_add1 hr hp h1 A1 K (fun pc be a1 a2 a3 a4 a5 a6 a7 a8 K => ?_)
    refine sj_set K (fun x6 h D pc be a1 a2 a3 a4 a5 a6 a7 a8 O K => ?_)
    have bR : r < 40 := by omega
    have bp : p < 10 := by omega
    refine sj_efT (w := sj_w0 r p h D 0) (by decide) (by decide) (by decide) (by decide) (fun m hm => sj_Kw0 K hm) (fun m => sj_w0b bR bp) (fun fb pc be a7 a8 => ?_)
    refine sj_efT (w := sj_w1 r p h D 0) (by decide) (by decide) (by decide) (by decide) (fun m hm => sj_Kw1 K hm) (fun m => sj_w1b bR bp) (fun fb pc be a7 a8 => ?_)
    refine sj_wo (by decide) (sj_Kw K) (fun pc be a7 a8 => ?_)
    refine sj_ww3 (sj_Kw2 K) (fun pc be a7 a8 => ?_)
    refine sj_sp3 K (fun be a7 => ?_)
    refine sj_deT (w := fun R => sj_w R p h D 0) (R := r) (by omega) K.1.1 K.1.2 (fun R b1 hR e0 e1 => sj_Kw ⟨⟨e0, e1⟩, K.2.1, K.2.2.1, K.2.2.2.1, K.2.2.2.2.1, K.2.2.2.2.2.1, by decide, hR, bp, K.2.2.2.2.2.2.2.2.2⟩) (fun R hR => sj_wb hR bp) (fun pc be b1 a7 a8 e0 e1 => ?_)
    have K := show sj_K r p h D 0 b1 a2 a3 a4 a5 a6 from ⟨⟨e0, e1⟩, K.2⟩
    refine sj_could K (fun x13 pc be a6 a7 a8 e13 K => ?_)
    refine sj_link01 K (fun y1 pc be a6 a7 a8 K => ?_) (fun y1 pc be a6 a7 a8 K => ?_)
    · rw [if_pos y1] at e13
      refine sj_link10C K ?_
      refine sj_efT (w := sj_w0 r p h D 1) (by decide) (by decide) (by decide) (by decide) (fun m hm => sj_Kw0 K hm) (fun m => sj_w0b bR bp) (fun fb pc be a7 a8 => ?_)
      refine sj_efT (w := sj_w1 r p h D 1) (by decide) (by decide) (by decide) (by decide) (fun m hm => sj_Kw1 K hm) (fun m => sj_w1b bR bp) (fun fb pc be a7 a8 => ?_)
      refine br_f q1 (br_f q2 (br_f q3 (br_t (Classical.not_not.mp q4) (sj_max hr (nm_r (nI_add _ _) ?_)))))
      rcases O with ⟨o1, o2, rfl, rfl⟩ | ⟨n, hn, rfl, o1, o2, rfl, rfl⟩ | ⟨n, hn, rfl, o1, o2, rfl, rfl⟩
      · have t : ∀ kc ks : Nat, wL_lawOf_254 post 34 544 (nI r) (nI p) d 0 1 x6 (nI (sj_ef (sj_w0 r p false 0 0) 7 1 60)) (nI (sj_ef (sj_w1 r p false 0 0) 7 1 60)) (nI (sj_w r p false 0 0)) (nI (sj_b false 0 (r + p))) (nI (max 3 r + p)) (nI (sj_de (fun R => sj_w R p false 0 0) r 9 0)) x13 0 (-4) (nI (sj_ef (sj_w0 r p false 0 1) 7 1 60)) (nI (sj_ef (sj_w1 r p false 0 1) 7 1 60)) (nI (max 3 r + p)) kc ks := fun kc ks =>
          sj_tBad H rfl rfl o2 (congrArg nI A3) ((congrArg nI A4).trans (nI_add r p).symm) (congrArg nI A2) (nI_add r p).symm rfl (congrArg nI A5) e13 rfl rfl (congrArg nI A7) (congrArg nI A8)
        exact br_c (fun _ => t _ _) (fun z1 => br_c (fun _ => t _ _) (fun z2 => absurd o1 (fun w => w.elim z1 z2)))
      · refine br_f (nI_pos (by omega)) (pk_lt 30 n (fun z => absurd z (by omega)) (fun _ => ?_))
        have hd := sj_pX hr hp h1 hn o1
        exact sj_tNot H (by rw [nI_add]; exact nI_lt hd (by omega)) rfl rfl o2 (congrArg nI A3) ((congrArg nI A4).trans (nI_add r p).symm) (congrArg nI A2) (nI_add r p).symm rfl (congrArg nI A5) e13 rfl rfl (congrArg nI A7) (congrArg nI A8)
      · refine br_f (nI_pos (by omega)) (pk_lt 30 D (fun z => absurd z (by omega)) (fun _ => ?_))
        have hh := sj_pN hr hp h1 hn o1
        obtain ⟨B1, B2, B3, B4, B5, B6, B7⟩ := sj_p1 hr hp h1 hn hh y1
        have bz : sj_b true D (r + p) = 0 := by
          show (if r + p ≤ D then 0 else 1000) = 0
          rw [if_pos hh]
        exact sj_tH1 H hr hp hn B1 rfl rfl o2 (congrArg nI B3) (congrArg nI B4) (congrArg nI B2) (congrArg nI bz) rfl (congrArg nI B5) e13 rfl rfl (congrArg nI B6) (congrArg nI B7) rfl
    · rw [if_neg (by omega)] at e13
      rcases O with ⟨o1, o2, rfl, rfl⟩ | ⟨n, hn, rfl, o1, o2, rfl, rfl⟩ | ⟨n, hn, rfl, o1, o2, rfl, rfl⟩
      · exact absurd A6 (by omega)
      · exact absurd A6 (by omega)
      · have hh := sj_pN hr hp h1 hn o1
        obtain ⟨B1, B2, B3, B4, B5, B6, B7, B8⟩ := sj_p2 hr hp h1 hn hh y1
        refine sj_link10 K (fun y2 pc be a6 a7 a8 K => ?_) (fun y2 => absurd B6 (by omega))
        refine sj_efT (w := sj_w0 r p true D 2) (by decide) (by decide) (by decide) (by decide) (fun m hm => sj_Kw0 K hm) (fun m => sj_w0b bR bp) (fun fb pc be a7 a8 => ?_)
        refine sj_efT (w := sj_w1 r p true D 2) (by decide) (by decide) (by decide) (by decide) (fun m hm => sj_Kw1 K hm) (fun m => sj_w1b bR bp) (fun fb pc be a7 a8 => ?_)
        refine br_f q1 (br_f q2 (br_f q3 (br_t (Classical.not_not.mp q4) (sj_max hr (nm_r (nI_add _ _) ?_)))))
        refine br_f (nI_pos (by omega)) (pk_lt 30 D (fun z => absurd z (by omega)) (fun _ => ?_))
        have bz : sj_b true D (r + p) = 0 := by
          show (if r + p ≤ D then 0 else 1000) = 0
          rw [if_pos hh]
        exact sj_tH0 H hr hp hn hh B1 rfl rfl o2 (congrArg nI B3) (congrArg nI B4) (congrArg nI B2) (congrArg nI bz) rfl (congrArg nI B5) e13 rfl rfl (congrArg nI B7) (congrArg nI B8) rfl
theorem sj_cell {P : Int32 → Prop} {L : Nat} {xs : Nat → Int32} {j : Nat} (hL : L ≤ 3) (hj : j < 3) (H : ∀ x : Int32, P x) : wpL_cellAt P L xs () (nI j) := by
  unfold wpL_cellAt
  exact pk_le L j (fun _ => H _) (fun z => ⟨vp_in_nI z (by omega), H _⟩)
theorem i_vc (xs : Nat → Int32) (L : Nat) (hL : L ≤ 3) : wpL_law (fun r => r = 1) L xs := by
  unfold wpL_law
  refine sj_cell (j := 0) hL (by decide) (fun x => ?_)
  refine sj_cell (j := 1) hL (by decide) (fun y => ?_)
  refine sj_cell (j := 2) hL (by decide) (fun d => ?_)
  exact ⟨34, 544, by decide, by decide, sj_run x y d rfl⟩
end
end
