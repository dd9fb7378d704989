section
/-! rows of the kit's paste file (pk_*: starting text) and the shared picture of both states -/
theorem pk_us {f : Nat → Int32} {k : Nat} {x : Int32} : upd f k x k = x := if_pos rfl
theorem pk_un {f : Nat → Int32} {k j : Nat} {x : Int32} (h : j ≠ k) : upd f k x j = f j := if_neg h
theorem pk_sub {a b : Nat} (h : b ≤ a) : nI a - nI b = nI (a - b) := by
  obtain ⟨c, rfl⟩ : ∃ c, a = c + b := ⟨a - b, by omega⟩
  rw [← nI_add, Int32.add_sub_cancel, Nat.add_sub_cancel]
theorem pk_mul (a b : Nat) : nI a * nI b = nI (a * b) := (Int32.ofNat_mul a b).symm
theorem pk_vs (z : Int32) : vp_nar .short z.toInt16.toInt32 = z.toInt16.toInt32 := by rw [vp_nar_short]; simp
/-- the cells of the members before m -/
def hk_sm (L : Nat → Nat) : Nat → Nat
  | 0 => 0
  | n + 1 => hk_sm L n + L n
/-- a table of lengths with one entry changed -/
def hk_up (L : Nat → Nat) (k v : Nat) : Nat → Nat := fun j => if j = k then v else L j
abbrev hk_X (c : Nat) (L : Nat → Nat) (so fl ns ow oq st ty : Nat → Int32) : SX := (nI c, nI (hk_sm L c), so, fl, ns, ow, oq, st, (fun m => nI (L m)), ty)
abbrev hk_Y (c : Nat) (L : Nat → Nat) (so fl ns ow oq row sig : Nat → Int32) : SY := (nI c, so, fl, ns, ow, oq, (fun m => nI (L m)), row, sig)
/-- what holds of one member -/
def hk_M (L : Nat → Nat) (so ow st ty row : Nat → Int32) (m : Nat) : Prop :=
  (so m = 9 ∧ L m ≤ 1 ∨ so m = 10 ∨ so m = 11) ∧ st m = nI (hk_sm L m) ∧ vp_nar .short (ow m) = ow m ∧
  ∀ j, j < L m → row (m * 6 + j) = ty (hk_sm L m + j) ∧ vp_nar .short (row (m * 6 + j)) = row (m * 6 + j)
def hk_F (c : Nat) (L : Nat → Nat) (so ow st ty row : Nat → Int32) : Prop :=
  c ≤ 4 ∧ hk_sm L c ≤ 6 ∧ ∀ m, m < c → hk_M L so ow st ty row m
def i_Rel (_ : Nat) (u : SX) (v : SY) : Prop :=
  ∃ (c : Nat) (L : Nat → Nat) (so fl ns ow oq st ty row sig : Nat → Int32),
    u = hk_X c L so fl ns ow oq st ty ∧ v = hk_Y c L so fl ns ow oq row sig ∧ hk_F c L so ow st ty row
theorem hk_rel {k c : Nat} {L : Nat → Nat} {so fl ns ow oq st ty row : Nat → Int32} (sig : Nat → Int32) (h : hk_F c L so ow st ty row) :
    i_Rel k (hk_X c L so fl ns ow oq st ty) (hk_Y c L so fl ns ow oq row sig) :=
  ⟨c, L, so, fl, ns, ow, oq, st, ty, row, sig, rfl, rfl, h⟩
theorem i_up {k : Nat} {u : SX} {v : SY} (h : i_Rel k u v) : i_Rel (k + 6) u v := h
theorem i_vc0 : wpX_init (fun u => wpY_init (fun v => i_Rel 0 u v)) :=
  hk_rel (k := 0) (c := 0) (L := fun _ => 0) (fun _ => 0) ⟨by decide, by decide, fun m h => absurd h (Nat.not_lt_zero m)⟩
theorem i_vc_members {k : Nat} {u : SX} {v : SY} (I : i_Rel k u v) (hk : k + 6 ≤ 3072) : wpX_members (fun r => wpY_members (fun r' => r' = r ∧ i_Rel (k + 6) u v) v) u := by
  obtain ⟨c, L, so, fl, ns, ow, oq, st, ty, row, sig, rfl, rfl, h⟩ := I
  exact And.intro rfl (hk_rel sig h)
theorem hk_smle (L : Nat → Nat) {m : Nat} : ∀ {c : Nat}, m < c → hk_sm L m + L m ≤ hk_sm L c := by
  intro c
  induction c with
  | zero => intro h; exact absurd h (Nat.not_lt_zero m)
  | succ c ih =>
    intro h
    show _ ≤ hk_sm L c + L c
    rcases Nat.lt_succ_iff_lt_or_eq.mp h with h1 | h1
    · have := ih h1; omega
    · subst h1; exact Nat.le_refl _
theorem hk_smup (L : Nat → Nat) (k v : Nat) : ∀ m : Nat, m ≤ k → hk_sm (hk_up L k v) m = hk_sm L m := by
  intro m
  induction m with
  | zero => intro _; rfl
  | succ m ih =>
    intro h
    show hk_sm (hk_up L k v) m + hk_up L k v m = hk_sm L m + L m
    rw [ih (by omega)]
    congr 1
    exact if_neg (by omega)
theorem hk_upn (L : Nat → Nat) (k v : Nat) : upd (fun m => nI (L m)) k (nI v) = fun m => nI (hk_up L k v m) := by
  funext j
  unfold upd hk_up
  by_cases h : j = k
  · rw [if_pos h, if_pos h]
  · rw [if_neg h, if_neg h]
theorem hk_ups (L : Nat → Nat) (k v : Nat) : hk_up L k v k = v := if_pos rfl
theorem hk_une (L : Nat → Nat) {k v j : Nat} (h : j ≠ k) : hk_up L k v j = L j := if_neg h
/-- the reference's recount of the cells -/
theorem hk_tc {c : Nat} {L : Nat → Nat} {so fl ns ow oq row sig : Nat → Int32} (h4 : c ≤ 4) : ∀ d i : Nat, i + d = c → ∀ post : Int32 → Prop, post (nI (hk_sm L c)) →
    wY_typeCells_4 post (nI c) so fl ns ow oq (fun m => nI (L m)) row sig (d + 1) (nI (hk_sm L i)) (nI i) := by
  intro d
  induction d with
  | zero =>
    intro i hi post hp
    have e : i = c := by omega
    subst e
    exact br_t (nI_le (Nat.le_refl _) (by omega)) hp
  | succ d ih =>
    intro i hi post hp
    refine br_f (nI_ge (by omega) (by omega)) ⟨vp_in_nI (by omega) (by decide), nm_r (e' := nI (hk_sm L (i + 1))) ?_ (nm_r (nI_1 i) (ih (i + 1) (by omega) post hp))⟩
    show nI (hk_sm L i) + nI (L (nI i).toNatClampNeg) = nI (hk_sm L i + L i)
    rw [nI_clamp (by omega), nI_add]
theorem hk_tcw {c : Nat} {L : Nat → Nat} {so fl ns ow oq row sig : Nat → Int32} (h4 : c ≤ 4) (post : Int32 → Prop) (hp : post (nI (hk_sm L c))) :
    wpY_typeCells post (hk_Y c L so fl ns ow oq row sig) := ⟨c + 1, hk_tc h4 c 0 (Nat.zero_add c) post hp⟩
theorem i_vc_typeCells {k : Nat} {u : SX} {v : SY} (I : i_Rel k u v) (hk : k + 6 ≤ 3072) : wpX_typeCells (fun r => wpY_typeCells (fun r' => r' = r ∧ i_Rel (k + 6) u v) v) u := by
  obtain ⟨c, L, so, fl, ns, ow, oq, st, ty, row, sig, rfl, rfl, h⟩ := I
  exact hk_tcw h.1 _ ⟨rfl, hk_rel sig h⟩
end
section
/-! addMember, addType: one outcome for both sides -/
theorem hk_uc {f : Nat → Int32} {c : Nat} {x : Int32} (hc : c < 2 ^ 31) : upd f (nI c).toNatClampNeg x = upd f c x := by rw [nI_clamp hc]
theorem hk_mt {L L' : Nat → Nat} {so so' ow ow' st st' ty ty' row row' : Nat → Int32} {m : Nat} (h : hk_M L so ow st ty row m) (e1 : L' m = L m) (e2 : so' m = so m) (e3 : ow' m = ow m) (e4 : st' m = st m) (e5 : hk_sm L' m = hk_sm L m)
    (e6 : ∀ j, j < L m → row' (m * 6 + j) = row (m * 6 + j)) (e7 : ∀ j, j < L m → ty' (hk_sm L m + j) = ty (hk_sm L m + j)) : hk_M L' so' ow' st' ty' row' m := by
  unfold hk_M at h ⊢
  rw [e1, e2, e3, e4, e5]
  refine ⟨h.1, h.2.1, h.2.2.1, fun j hj => ?_⟩
  rw [e6 j hj, e7 j hj]
  exact h.2.2.2 j hj
theorem hk_a9 : vp_nar .byte (9 : Int32).toInt8.toInt32 = 9 := by rw [vp_nar_byte]; decide
theorem hk_a10 : vp_nar .byte (10 : Int32).toInt8.toInt32 = 10 := by rw [vp_nar_byte]; decide
theorem hk_a11 : vp_nar .byte (11 : Int32).toInt8.toInt32 = 11 := by rw [vp_nar_byte]; decide
section
variable {k c : Nat} {L : Nat → Nat} {so fl ns ow oq st ty row sig : Nat → Int32}
theorem hk_amF (h : hk_F c L so ow st ty row) (hc : c < 4) {A D : Int32} (hA : A = 9 ∨ A = 10 ∨ A = 11) (hD : vp_nar .short D = D) :
    hk_F (c + 1) (hk_up L c 0) (upd so c A) (upd ow c D) (upd st c (nI (hk_sm L c))) ty row := by
  have es : hk_sm (hk_up L c 0) (c + 1) = hk_sm L c := by
    show hk_sm (hk_up L c 0) c + hk_up L c 0 c = _
    rw [hk_smup L c 0 c (Nat.le_refl _), hk_ups]; rfl
  refine ⟨by omega, by rw [es]; exact h.2.1, fun m hm => ?_⟩
  rcases Nat.lt_succ_iff_lt_or_eq.mp hm with h1 | h1
  · have hn : m ≠ c := by omega
    exact hk_mt (h.2.2 m h1) (hk_une L hn) (pk_un hn) (pk_un hn) (pk_un hn) (hk_smup L c 0 m (by omega)) (fun _ _ => rfl) (fun _ _ => rfl)
  · subst h1
    unfold hk_M
    rw [pk_us, pk_us, pk_us, hk_ups, hk_smup L m 0 m (Nat.le_refl _)]
    refine ⟨?_, rfl, hD, fun j hj => absurd hj (Nat.not_lt_zero j)⟩
    rcases hA with e | e | e
    · exact Or.inl ⟨e, by decide⟩
    · exact Or.inr (Or.inl e)
    · exact Or.inr (Or.inr e)
theorem hk_am37 (h : hk_F c L so ow st ty row) {v1 : Int32} (hv : v1 = 9 ∨ v1 = 10 ∨ v1 = 11) (v2 v3 v4 v5 : Int32) :
    ∃ (r : Int32) (u' : SX) (v' : SY), i_Rel k u' v' ∧
      (∀ post : Int32 → SX → Prop, post r u' → wX_addMember_37 post v1 v2 v3 v4 v5 (nI c) (nI (hk_sm L c)) so fl ns ow oq st (fun m => nI (L m)) ty) ∧
      (∀ post : Int32 → SY → Prop, post r v' → wY_addMember_37 post v1 v2 v3 v4 v5 (nI c) so fl ns ow oq (fun m => nI (L m)) row sig) := by
  have h4 : c ≤ 4 := h.1
  by_cases hc : c < 4
  · have hb : c < 2 ^ 31 := by omega
    have hA : vp_nar .byte v1.toInt8.toInt32 = 9 ∨ vp_nar .byte v1.toInt8.toInt32 = 10 ∨ vp_nar .byte v1.toInt8.toInt32 = 11 := by
      rcases hv with e | e | e
      · rw [e, hk_a9]; exact Or.inl rfl
      · rw [e, hk_a10]; exact Or.inr (Or.inl rfl)
      · rw [e, hk_a11]; exact Or.inr (Or.inr rfl)
    have hD : vp_nar .short (vp_nar .short v4.toInt16.toInt32) = vp_nar .short v4.toInt16.toInt32 := by rw [pk_vs, pk_vs]
    have es : hk_sm (hk_up L c 0) (c + 1) = hk_sm L c := by
      show hk_sm (hk_up L c 0) c + hk_up L c 0 c = _
      rw [hk_smup L c 0 c (Nat.le_refl _), hk_ups]; rfl
    have hin : vp_in (nI c) 4 := vp_in_nI hc (by decide)
    have eL : upd (fun m => nI (L m)) (nI c).toNatClampNeg 0 = fun m => nI (hk_up L c 0 m) := by rw [nI_clamp hb]; exact hk_upn L c 0
    refine ⟨nI c, _, _, hk_rel (fl := upd fl c (vp_nar .char ((v2.toUInt32 % 65536).toInt32))) (ns := upd ns c (vp_nar .byte v3.toInt8.toInt32)) (oq := upd oq c (vp_nar .char ((v5.toUInt32 % 65536).toInt32))) sig (hk_amF h hc hA hD), fun post hp => ?_, fun post hp => ?_⟩
    · unfold hk_X at hp
      rw [es] at hp
      exact br_t (nI_lt (b := 4) hc (by decide)) ⟨hin, nm_r (hk_uc hb) ⟨hin, nm_r (hk_uc hb) ⟨hin, nm_r (hk_uc hb) ⟨hin, nm_r (hk_uc hb) ⟨hin, nm_r (hk_uc hb) ⟨hin, nm_r (hk_uc hb) ⟨hin, nm_r eL (nm_r (nI_1 c) hp)⟩⟩⟩⟩⟩⟩⟩
    · have n4 : ¬ nI c = 4 := fun q => absurd ((nI_eq (b := 4) hb (by decide)).mp q) (by omega)
      exact br_f n4 ⟨hin, nm_r (hk_uc hb) ⟨hin, nm_r (hk_uc hb) ⟨hin, nm_r (hk_uc hb) ⟨hin, nm_r (hk_uc hb) ⟨hin, nm_r (hk_uc hb) ⟨hin, nm_r eL (nm_r (nI_1 c) hp)⟩⟩⟩⟩⟩⟩
  · have e : c = 4 := by omega
    subst e
    exact ⟨-3, _, _, hk_rel (fl := fl) (ns := ns) (oq := oq) sig h, fun post hp => br_f (by decide) hp, fun post hp => br_t rfl hp⟩
theorem hk_am20 (h : hk_F c L so ow st ty row) {v1 : Int32} (hv : v1 = 9 ∨ v1 = 10 ∨ v1 = 11) (v2 v3 v4 v5 : Int32) :
    ∃ (r : Int32) (u' : SX) (v' : SY), i_Rel k u' v' ∧
      (∀ post : Int32 → SX → Prop, post r u' → wX_addMember_20 post v1 v2 v3 v4 v5 (nI c) (nI (hk_sm L c)) so fl ns ow oq st (fun m => nI (L m)) ty) ∧
      (∀ post : Int32 → SY → Prop, post r v' → wY_addMember_20 post v1 v2 v3 v4 v5 (nI c) so fl ns ow oq (fun m => nI (L m)) row sig) := by
  obtain ⟨r, u', v', hR, hX, hY⟩ := hk_am37 (k := k) (fl := fl) (ns := ns) (oq := oq) (sig := sig) h hv v2 v3 v4 v5
  by_cases a0 : v3 = 0
  · exact ⟨r, u', v', hR, fun post hp => br_t a0 (hX post hp), fun post hp => br_t a0 (hY post hp)⟩
  by_cases a1 : v3 = 1
  · exact ⟨r, u', v', hR, fun post hp => br_f a0 (br_t a1 (hX post hp)), fun post hp => br_f a0 (br_t a1 (hY post hp))⟩
  by_cases a2 : v3 = 2
  · exact ⟨r, u', v', hR, fun post hp => br_f a0 (br_f a1 (br_t a2 (hX post hp))), fun post hp => br_f a0 (br_f a1 (br_t a2 (hY post hp)))⟩
  exact ⟨-2, _, _, hk_rel (fl := fl) (ns := ns) (oq := oq) sig h, fun post hp => br_f a0 (br_f a1 (br_f a2 hp)), fun post hp => br_f a0 (br_f a1 (br_f a2 hp))⟩
theorem hk_am (h : hk_F c L so ow st ty row) (v1 v2 v3 v4 v5 : Int32) :
    ∃ (r : Int32) (u' : SX) (v' : SY), i_Rel k u' v' ∧
      (∀ post : Int32 → SX → Prop, post r u' → wpX_addMember post (hk_X c L so fl ns ow oq st ty) v1 v2 v3 v4 v5) ∧
      (∀ post : Int32 → SY → Prop, post r v' → wpY_addMember post (hk_Y c L so fl ns ow oq row sig) v1 v2 v3 v4 v5) := by
  by_cases hv : v1 = 9 ∨ v1 = 10 ∨ v1 = 11
  · obtain ⟨r, u', v', hR, hX, hY⟩ := hk_am20 (k := k) (fl := fl) (ns := ns) (oq := oq) (sig := sig) h hv v2 v3 v4 v5
    by_cases a9 : v1 = 9
    · exact ⟨r, u', v', hR, fun post hp => br_t a9 (hX post hp), fun post hp => br_t a9 (hY post hp)⟩
    by_cases a10 : v1 = 10
    · exact ⟨r, u', v', hR, fun post hp => br_f a9 (br_t a10 (hX post hp)), fun post hp => br_f a9 (br_t a10 (hY post hp))⟩
    have a11 : v1 = 11 := by
      rcases hv with e | e | e
      · exact absurd e a9
      · exact absurd e a10
      · exact e
    exact ⟨r, u', v', hR, fun post hp => br_f a9 (br_f a10 (br_t a11 (hX post hp))), fun post hp => br_f a9 (br_f a10 (br_t a11 (hY post hp)))⟩
  · have a9 : ¬ v1 = 9 := fun q => hv (Or.inl q)
    have a10 : ¬ v1 = 10 := fun q => hv (Or.inr (Or.inl q))
    have a11 : ¬ v1 = 11 := fun q => hv (Or.inr (Or.inr q))
    exact ⟨-1, _, _, hk_rel (fl := fl) (ns := ns) (oq := oq) sig h, fun post hp => br_f a9 (br_f a10 (br_f a11 hp)), fun post hp => br_f a9 (br_f a10 (br_f a11 hp))⟩
end
theorem i_vc_addMember {k : Nat} {u : SX} {v : SY} (I : i_Rel k u v) (hk : k + 6 ≤ 3072) (v1 : Int32) (v2 : Int32) (v3 : Int32) (v4 : Int32) (v5 : Int32) : wpX_addMember (fun r u' => wpY_addMember (fun r' v' => r' = r ∧ i_Rel (k + 6) u' v') v v1 v2 v3 v4 v5) u v1 v2 v3 v4 v5 := by
  obtain ⟨c, L, so, fl, ns, ow, oq, st, ty, row, sig, rfl, rfl, h⟩ := I
  obtain ⟨r, u', v', hR, hX, hY⟩ := hk_am (k := k + 6) (fl := fl) (ns := ns) (oq := oq) (sig := sig) h v1 v2 v3 v4 v5
  exact hX _ (hY _ ⟨rfl, hR⟩)
section
variable {k m : Nat} {L : Nat → Nat} {so fl ns ow oq st ty row sig : Nat → Int32}
theorem hk_L6 {c : Nat} (h : hk_F c L so ow st ty row) (hm : m < c) : hk_sm L m + L m ≤ 6 := Nat.le_trans (hk_smle L hm) h.2.1
theorem hk_atF (h : hk_F (m + 1) L so ow st ty row) (hu : hk_sm L (m + 1) < 6) (hs : so m = 9 → L m = 0) {w : Int32} (hw : vp_nar .short w = w) :
    hk_F (m + 1) (hk_up L m (L m + 1)) so ow st (upd ty (hk_sm L (m + 1)) w) (upd row (m * 6 + L m) w) := by
  have eu : hk_sm L (m + 1) = hk_sm L m + L m := rfl
  have es : hk_sm (hk_up L m (L m + 1)) (m + 1) = hk_sm L (m + 1) + 1 := by
    show hk_sm (hk_up L m (L m + 1)) m + hk_up L m (L m + 1) m = _
    rw [hk_smup L m _ m (Nat.le_refl _), hk_ups, eu]; omega
  refine ⟨h.1, by omega, fun q hq => ?_⟩
  have hM := h.2.2 q hq
  rcases Nat.lt_succ_iff_lt_or_eq.mp hq with h1 | h1
  · have hn : q ≠ m := by omega
    have h6 := hk_smle L hq
    have h7 := hk_L6 h hq
    exact hk_mt hM (hk_une L hn) rfl rfl rfl (hk_smup L m _ q (by omega)) (fun j hj => pk_un (by omega)) (fun j hj => pk_un (by omega))
  · subst h1
    unfold hk_M at hM ⊢
    rw [hk_ups, hk_smup L q _ q (Nat.le_refl _), eu]
    refine ⟨?_, hM.2.1, hM.2.2.1, fun j hj => ?_⟩
    · rcases hM.1 with e | e
      · have := hs e.1
        exact Or.inl ⟨e.1, by omega⟩
      · exact Or.inr e
    · rcases Nat.lt_succ_iff_lt_or_eq.mp hj with h2 | h2
      · rw [pk_un (by omega), pk_un (by omega)]
        exact hM.2.2.2 j h2
      · subst h2
        rw [pk_us, pk_us]
        exact ⟨rfl, hw⟩
theorem hk_at71 (h : hk_F (m + 1) L so ow st ty row) (hs : so m = 9 → L m = 0) {w : Int32} (hw : vp_nar .short w = w) :
    ∃ (r : Int32) (u' : SX) (v' : SY), i_Rel k u' v' ∧
      (∀ post : Int32 → SX → Prop, post r u' → wX_addType_71 post w (nI m) (nI (m + 1)) (nI (hk_sm L (m + 1))) so fl ns ow oq st (fun m => nI (L m)) ty) ∧
      (∀ post : Int32 → SY → Prop, post r v' → wY_addType_70 post w (nI m) (nI (m + 1)) so fl ns ow oq (fun m => nI (L m)) row sig) := by
  have h4 : m + 1 ≤ 4 := h.1
  have h6 : hk_sm L (m + 1) ≤ 6 := h.2.1
  have hm : m < 2 ^ 31 := by omega
  have hb : hk_sm L (m + 1) < 2 ^ 31 := by omega
  have hin : vp_in (nI m) 4 := vp_in_nI (by omega) (by decide)
  have eu : hk_sm L (m + 1) = hk_sm L m + L m := rfl
  have es : hk_sm (hk_up L m (L m + 1)) (m + 1) = hk_sm L (m + 1) + 1 := by
    show hk_sm (hk_up L m (L m + 1)) m + hk_up L m (L m + 1) m = _
    rw [hk_smup L m _ m (Nat.le_refl _), hk_ups, eu]; omega
  by_cases hu : hk_sm L (m + 1) < 6
  · have eL : upd (fun m => nI (L m)) (nI m).toNatClampNeg (nI (L (nI m).toNatClampNeg) + 1) = fun j => nI (hk_up L m (L m + 1) j) := by
      rw [nI_clamp hm, nI_1]; exact hk_upn L m (L m + 1)
    refine ⟨nI (L m + 1), _, _, hk_rel (fl := fl) (ns := ns) (oq := oq) sig (hk_atF h hu hs hw), fun post hp => ?_, fun post hp => ?_⟩
    · unfold hk_X at hp
      rw [es] at hp
      have e1 : upd ty (nI (hk_sm L (m + 1))).toNatClampNeg (vp_nar .short w) = upd ty (hk_sm L (m + 1)) w := by rw [nI_clamp hb, hw]
      have e2 : nI (hk_up L m (L m + 1) (nI m).toNatClampNeg) = nI (L m + 1) := by rw [nI_clamp hm, hk_ups]
      refine br_t (nI_lt (b := 6) hu (by decide)) ⟨vp_in_nI hu (by decide), nm_r e1 (nm_r (nI_1 _) ⟨hin, hin, nm_r eL ⟨hin, ?_⟩⟩)⟩
      show post (nI (hk_up L m (L m + 1) (nI m).toNatClampNeg)) _
      rw [e2]
      exact hp
    · have n6 : ¬ nI (hk_sm L (m + 1)) = 6 := fun q => absurd ((nI_eq (b := 6) hb (by decide)).mp q) (by omega)
      have ei : nI m * 6 + nI (L (nI m).toNatClampNeg) = nI (m * 6 + L m) := by
        rw [nI_clamp hm, show (6 : Int32) = nI 6 from rfl, pk_mul, nI_add]
      have h24 : vp_in (nI m * 6 + nI (L (nI m).toNatClampNeg)) 24 := by rw [ei]; exact vp_in_nI (by omega) (by decide)
      have e1 : upd row (nI m * 6 + nI (L (nI m).toNatClampNeg)).toNatClampNeg (vp_nar .short w) = upd row (m * 6 + L m) w := by rw [ei, nI_clamp (by omega), hw]
      have e2 : nI (L (nI m).toNatClampNeg) + 1 = nI (L m + 1) := by rw [nI_clamp hm, nI_1]
      refine hk_tcw h4 _ (br_f n6 ⟨hin, h24, nm_r e1 ⟨hin, hin, nm_r eL ?_⟩⟩)
      show post (nI (L (nI m).toNatClampNeg) + 1) _
      rw [e2]
      exact hp
  · have e6 : hk_sm L (m + 1) = 6 := by omega
    refine ⟨-4, _, _, hk_rel (fl := fl) (ns := ns) (oq := oq) sig h, fun post hp => br_f ?_ hp, fun post hp => hk_tcw h4 _ (br_t ?_ hp)⟩
    · rw [e6]; decide
    · rw [e6]; rfl
theorem hk_at43 (h : hk_F (m + 1) L so ow st ty row) (hs : so m = 9 → L m = 0) {w : Int32} (hw : vp_nar .short w = w) :
    ∃ (r : Int32) (u' : SX) (v' : SY), i_Rel k u' v' ∧
      (∀ post : Int32 → SX → Prop, post r u' → wX_addType_43 post w (nI m) (nI (m + 1)) (nI (hk_sm L (m + 1))) so fl ns ow oq st (fun m => nI (L m)) ty) ∧
      (∀ post : Int32 → SY → Prop, post r v' → wY_addType_43 post w (nI m) (nI (m + 1)) so fl ns ow oq (fun m => nI (L m)) row sig) := by
  have h4 : m + 1 ≤ 4 := h.1
  have hm : m < 2 ^ 31 := by omega
  have hl := hk_L6 h (Nat.lt_succ_self m)
  have hin : vp_in (nI m) 4 := vp_in_nI (by omega) (by decide)
  obtain ⟨r, u', v', hR, hX, hY⟩ := hk_at71 (k := k) (fl := fl) (ns := ns) (oq := oq) (sig := sig) h hs hw
  by_cases w0 : w = 0
  · by_cases s9 : so (nI m).toNatClampNeg = 9
    · exact ⟨-3, _, _, hk_rel (fl := fl) (ns := ns) (oq := oq) sig h, fun post hp => br_t w0 ⟨hin, br_t s9 hp⟩, fun post hp => br_t w0 ⟨hin, br_t s9 hp⟩⟩
    · by_cases l0 : L m = 0
      · have x0 : nI (L (nI m).toNatClampNeg) < 1 := by rw [nI_clamp hm, l0]; decide
        have y0 : nI (L (nI m).toNatClampNeg) ≤ 0 := by rw [nI_clamp hm, l0]; decide
        exact ⟨r, u', v', hR, fun post hp => br_t w0 ⟨hin, br_f s9 ⟨hin, br_t x0 (hX post hp)⟩⟩, fun post hp => br_t w0 ⟨hin, br_f s9 ⟨hin, br_t y0 (hY post hp)⟩⟩⟩
      · have x0 : ¬ nI (L (nI m).toNatClampNeg) < 1 := by rw [nI_clamp hm]; exact nI_nlt (b := 1) (by omega) (by omega)
        have y0 : ¬ nI (L (nI m).toNatClampNeg) ≤ 0 := by rw [nI_clamp hm]; exact nI_nle (by omega) (by omega)
        exact ⟨-3, _, _, hk_rel (fl := fl) (ns := ns) (oq := oq) sig h, fun post hp => br_t w0 ⟨hin, br_f s9 ⟨hin, br_f x0 hp⟩⟩, fun post hp => br_t w0 ⟨hin, br_f s9 ⟨hin, br_f y0 hp⟩⟩⟩
  · exact ⟨r, u', v', hR, fun post hp => br_f w0 (hX post hp), fun post hp => br_f w0 (hY post hp)⟩
theorem hk_at {c : Nat} (h : hk_F c L so ow st ty row) (v1 : Int32) :
    ∃ (r : Int32) (u' : SX) (v' : SY), i_Rel k u' v' ∧
      (∀ post : Int32 → SX → Prop, post r u' → wpX_addType post (hk_X c L so fl ns ow oq st ty) v1) ∧
      (∀ post : Int32 → SY → Prop, post r v' → wpY_addType post (hk_Y c L so fl ns ow oq row sig) v1) := by
  match c, h with
  | 0, h => exact ⟨-1, _, _, hk_rel (fl := fl) (ns := ns) (oq := oq) sig h, fun post hp => br_f (by decide) hp, fun post hp => br_t rfl hp⟩
  | m + 1, h =>
    have h4 : m + 1 ≤ 4 := h.1
    have hm : m < 2 ^ 31 := by omega
    have hl := hk_L6 h (Nat.lt_succ_self m)
    have hin : vp_in (nI m) 4 := vp_in_nI (by omega) (by decide)
    have hM := h.2.2 m (Nat.lt_succ_self m)
    have hw := pk_vs v1
    have c0 : (0 : Int32) < nI (m + 1) := nI_lt (a := 0) (by omega) (by omega)
    have c1 : ¬ nI (m + 1) = 0 := nI_ne0 (by omega) (by omega)
    by_cases s9 : so (nI m).toNatClampNeg = 9
    · have s9' : so m = 9 := by rw [nI_clamp hm] at s9; exact s9
      by_cases l0 : L m = 0
      · obtain ⟨r, u', v', hR, hX, hY⟩ := hk_at43 (k := k) (fl := fl) (ns := ns) (oq := oq) (sig := sig) h (fun _ => l0) hw
        have x0 : nI (L (nI m).toNatClampNeg) < 1 := by rw [nI_clamp hm, l0]; decide
        have y0 : ¬ nI (L (nI m).toNatClampNeg) = 1 := by rw [nI_clamp hm, l0]; decide
        exact ⟨r, u', v', hR, fun post hp => br_t c0 (nm_r (nI_pred m) ⟨hin, br_t s9 ⟨hin, br_t x0 (hX post hp)⟩⟩), fun post hp => br_f c1 (nm_r (nI_pred m) ⟨hin, br_t s9 ⟨hin, br_f y0 (hY post hp)⟩⟩)⟩
      · have l1 : L m = 1 := by
          rcases hM.1 with e | e | e
          · have := e.2; omega
          · rw [s9'] at e; exact absurd e (by decide)
          · rw [s9'] at e; exact absurd e (by decide)
        have x0 : ¬ nI (L (nI m).toNatClampNeg) < 1 := by rw [nI_clamp hm, l1]; decide
        have y0 : nI (L (nI m).toNatClampNeg) = 1 := by rw [nI_clamp hm, l1]; rfl
        exact ⟨-2, _, _, hk_rel (fl := fl) (ns := ns) (oq := oq) sig h, fun post hp => br_t c0 (nm_r (nI_pred m) ⟨hin, br_t s9 ⟨hin, br_f x0 hp⟩⟩), fun post hp => br_f c1 (nm_r (nI_pred m) ⟨hin, br_t s9 ⟨hin, br_t y0 hp⟩⟩)⟩
    · have s9' : ¬ so m = 9 := by rw [nI_clamp hm] at s9; exact s9
      obtain ⟨r, u', v', hR, hX, hY⟩ := hk_at43 (k := k) (fl := fl) (ns := ns) (oq := oq) (sig := sig) h (fun q => absurd q s9') hw
      exact ⟨r, u', v', hR, fun post hp => br_t c0 (nm_r (nI_pred m) ⟨hin, br_f s9 (hX post hp)⟩), fun post hp => br_f c1 (nm_r (nI_pred m) ⟨hin, br_f s9 (hY post hp)⟩)⟩
end
theorem i_vc_addType {k : Nat} {u : SX} {v : SY} (I : i_Rel k u v) (hk : k + 6 ≤ 3072) (v1 : Int32) : wpX_addType (fun r u' => wpY_addType (fun r' v' => r' = r ∧ i_Rel (k + 6) u' v') v v1) u v1 := by
  obtain ⟨c, L, so, fl, ns, ow, oq, st, ty, row, sig, rfl, rfl, h⟩ := I
  obtain ⟨r, u', v', hR, hX, hY⟩ := hk_at (k := k + 6) (fl := fl) (ns := ns) (oq := oq) (sig := sig) h v1
  exact hX _ (hY _ ⟨rfl, hR⟩)
end
section
/-! known, fits, formatOk -/
section
variable {k m c : Nat} {L : Nat → Nat} {so fl ns ow oq st ty row sig : Nat → Int32}
theorem hk_known (h : hk_F c L so ow st ty row) (v1 v2 : Int32) :
    (∃ k m : Nat, 1 ≤ k ∧ k ≤ 9 ∧ m < c ∧ 1 ≤ L m ∧ v1 = nI k ∧ v2 = nI m ∧
      (∀ post : Int32 → Prop, post 1 → wpX_known post (hk_X c L so fl ns ow oq st ty) v1 v2) ∧
      (∀ post : Int32 → Prop, post 1 → wpY_known post (hk_Y c L so fl ns ow oq row sig) v1 v2)) ∨
    ((∀ post : Int32 → Prop, post 0 → wpX_known post (hk_X c L so fl ns ow oq st ty) v1 v2) ∧
      (∀ post : Int32 → Prop, post 0 → wpY_known post (hk_Y c L so fl ns ow oq row sig) v1 v2)) := by
  have h4 : c ≤ 4 := h.1
  by_cases h1 : v1 < 1
  · exact Or.inr ⟨fun _ hp => br_t h1 hp, fun _ hp => br_t h1 hp⟩
  by_cases h9 : v1 ≤ 9
  case neg => exact Or.inr ⟨fun _ hp => br_f h1 (br_f h9 hp), fun _ hp => br_f h1 (br_t (Int32.not_le.mp h9) hp)⟩
  have h9' : ¬ 9 < v1 := Int32.not_lt.mpr h9
  by_cases h0 : v2 < 0
  · exact Or.inr ⟨fun _ hp => br_f h1 (br_t h9 (br_t h0 hp)), fun _ hp => br_f h1 (br_f h9' (br_t h0 hp))⟩
  obtain ⟨m, hm, rfl⟩ := nI_of h0
  by_cases hc : m < c
  case neg =>
    have a1 : ¬ nI m < nI c := nI_nlt (by omega) hm
    have a2 : nI c ≤ nI m := nI_le (by omega) hm
    exact Or.inr ⟨fun _ hp => br_f h1 (br_t h9 (br_f h0 (br_f a1 hp))), fun _ hp => br_f h1 (br_f h9' (br_f h0 (br_t a2 hp)))⟩
  have a1 : nI m < nI c := nI_lt hc (by omega)
  have a2 : ¬ nI c ≤ nI m := nI_ge hc (by omega)
  have hin : vp_in (nI m) 4 := vp_in_nI (by omega) (by decide)
  have hl := hk_L6 h hc
  by_cases hL : 1 ≤ L m
  · have b1 : ¬ nI (L (nI m).toNatClampNeg) < 1 := by rw [nI_clamp hm]; exact nI_nlt (b := 1) hL (by omega)
    have b2 : ¬ nI (L (nI m).toNatClampNeg) ≤ 0 := by rw [nI_clamp hm]; exact nI_nle hL (by omega)
    have p0 : ¬ v1 < 0 := by
      rw [Int32.lt_iff_toInt_lt] at h1 ⊢
      rw [show (1 : Int32).toInt = 1 from by decide] at h1
      rw [show (0 : Int32).toInt = 0 from by decide]
      omega
    obtain ⟨k, hk, rfl⟩ := nI_of2 (M := 9) (n := 9) (by decide) p0 h9
    have hk1 : 1 ≤ k := by
      by_cases q : 1 ≤ k
      · exact q
      · have e : k = 0 := by omega
        subst e
        exact absurd (by decide) h1
    exact Or.inl ⟨k, m, hk1, hk, hc, hL, rfl, rfl, fun _ hp => br_f h1 (br_t h9 (br_f h0 (br_t a1 ⟨hin, br_f b1 hp⟩))), fun _ hp => br_f h1 (br_f h9' (br_f h0 (br_f a2 ⟨hin, br_f b2 hp⟩)))⟩
  · have e : L m = 0 := by omega
    have b1 : nI (L (nI m).toNatClampNeg) < 1 := by rw [nI_clamp hm, e]; decide
    have b2 : nI (L (nI m).toNatClampNeg) ≤ 0 := by rw [nI_clamp hm, e]; decide
    exact Or.inr ⟨fun _ hp => br_f h1 (br_t h9 (br_f h0 (br_t a1 ⟨hin, br_t b1 hp⟩))), fun _ hp => br_f h1 (br_f h9' (br_f h0 (br_f a2 ⟨hin, br_t b2 hp⟩)))⟩
/-- the table of fits: 0 never, 1 from version 52, 2 from 51 -/
def hk_ft (k s : Nat) : Nat :=
  if s = 9 then (if k ≤ 4 then 2 else 0) else if s = 10 then (if k ≤ 4 then 0 else if k ≤ 8 then 2 else 0) else (if k = 9 then 2 else if k = 6 then 1 else if k = 7 then 1 else 0)
theorem hk_key : ∀ k, k < 10 → (nI k <<< ((4 : Int32) &&& 31)) ||| nI 9 = nI (16 * k + 9) ∧ (nI k <<< ((4 : Int32) &&& 31)) ||| nI 10 = nI (16 * k + 10) ∧ (nI k <<< ((4 : Int32) &&& 31)) ||| nI 11 = nI (16 * k + 11) := by decide +kernel
theorem hk_sor (h : hk_M L so ow st ty row m) : ∃ s : Nat, (s = 9 ∨ s = 10 ∨ s = 11) ∧ so m = nI s := by
  rcases h.1 with e | e | e
  · exact ⟨9, Or.inl rfl, e.1⟩
  · exact ⟨10, Or.inr (Or.inl rfl), e⟩
  · exact ⟨11, Or.inr (Or.inr rfl), e⟩
theorem hk_kc (hk1 : 1 ≤ k) (hk9 : k ≤ 9) : k = 1 ∨ k = 2 ∨ k = 3 ∨ k = 4 ∨ k = 5 ∨ k = 6 ∨ k = 7 ∨ k = 8 ∨ k = 9 := by omega
theorem hk_fits {s : Nat} (hk1 : 1 ≤ k) (hk9 : k ≤ 9) (hm : m < 4) (hs : s = 9 ∨ s = 10 ∨ s = 11) (e : so m = nI s) (post : Int32 → Prop) (hp : post (nI (hk_ft k s))) :
    wpY_fits post (hk_Y c L so fl ns ow oq row sig) (nI k) (nI m) := by
  have cm : so (nI m).toNatClampNeg = nI s := by rw [nI_clamp (by omega)]; exact e
  have ek : (nI k <<< ((4 : Int32) &&& 31)) ||| so (nI m).toNatClampNeg = nI (16 * k + s) := by
    rw [cm]
    have q := hk_key k (by omega)
    rcases hs with rfl | rfl | rfl
    · exact q.1
    · exact q.2.1
    · exact q.2.2
  refine And.intro (vp_in_nI hm (by decide)) (nm_r ek ?_)
  clear ek cm e
  rcases hs with rfl | rfl | rfl <;> rcases hk_kc hk1 hk9 with rfl | rfl | rfl | rfl | rfl | rfl | rfl | rfl | rfl <;>
    (repeat first | exact br_t (by decide) hp | refine br_f (by decide) ?_) <;> exact hp
/-- the common tail of the format check -/
theorem hk_tail (h : hk_F c L so ow st ty row) (hm : m < c) (hL : 1 ≤ L m) :
    ∃ r : Int32, (r = 0 ∨ r = 1) ∧
      (∀ post : Int32 → Prop, post r → wX_formatOk_106 post (nI k) (nI m) (nI c) (nI (hk_sm L c)) so fl ns ow oq st (fun m => nI (L m)) ty) ∧
      (∀ post : Int32 → Prop, post r → wY_formatOk_46 post (nI k) (nI m) (nI c) so fl ns ow oq (fun m => nI (L m)) row sig) := by
  have h4 : c ≤ 4 := h.1
  have hM := h.2.2 m hm
  have hl := hk_L6 h hm
  have cm : (nI m).toNatClampNeg = m := nI_clamp (by omega)
  have hin : vp_in (nI m) 4 := vp_in_nI (by omega) (by decide)
  by_cases k4 : 4 < nI k
  case neg => exact ⟨1, Or.inr rfl, fun _ hp => br_f k4 hp, fun _ hp => br_f k4 hp⟩
  by_cases k8 : nI k = 8
  case neg =>
    by_cases n0 : ns (nI m).toNatClampNeg = 0
    · exact ⟨1, Or.inr rfl, fun _ hp => br_t k4 (br_f k8 ⟨hin, br_t n0 hp⟩), fun _ hp => br_t k4 (br_f k8 ⟨hin, br_t n0 hp⟩)⟩
    · exact ⟨0, Or.inl rfl, fun _ hp => br_t k4 (br_f k8 ⟨hin, br_f n0 hp⟩), fun _ hp => br_t k4 (br_f k8 ⟨hin, br_f n0 hp⟩)⟩
  by_cases n1 : ns (nI m).toNatClampNeg = 1
  case neg => exact ⟨0, Or.inl rfl, fun _ hp => br_t k4 (br_t k8 ⟨hin, br_f n1 hp⟩), fun _ hp => br_t k4 (br_t k8 ⟨hin, br_f n1 hp⟩)⟩
  have es : st (nI m).toNatClampNeg = nI (hk_sm L m) := by rw [cm]; exact hM.2.1
  have h6 : vp_in (st (nI m).toNatClampNeg) 6 := by rw [es]; exact vp_in_nI (by omega) (by decide)
  have ei : nI m * 6 = nI (m * 6) := by rw [show (6 : Int32) = nI 6 from rfl, pk_mul]
  have h24 : vp_in (nI m * 6) 24 := by rw [ei]; exact vp_in_nI (by omega) (by decide)
  have et : row (nI m * 6).toNatClampNeg = ty (st (nI m).toNatClampNeg).toNatClampNeg := by
    rw [ei, es, nI_clamp (by omega), nI_clamp (by omega)]
    exact (hM.2.2.2 0 (by omega)).1
  by_cases z : ty (st (nI m).toNatClampNeg).toNatClampNeg = 0
  · exact ⟨1, Or.inr rfl, fun _ hp => br_t k4 (br_t k8 ⟨hin, br_t n1 ⟨hin, h6, br_t z hp⟩⟩), fun _ hp => br_t k4 (br_t k8 ⟨hin, br_t n1 ⟨h24, br_t (et.trans z) hp⟩⟩)⟩
  · exact ⟨0, Or.inl rfl, fun _ hp => br_t k4 (br_t k8 ⟨hin, br_t n1 ⟨hin, h6, br_f z hp⟩⟩), fun _ hp => br_t k4 (br_t k8 ⟨hin, br_t n1 ⟨h24, br_f (fun q => z (et.symm.trans q)) hp⟩⟩)⟩
theorem hk_fx {s : Nat} {v3 : Int32} (hk1 : 1 ≤ k) (hk9 : k ≤ 9) (hm : m < 4) (hs : s = 9 ∨ s = 10 ∨ s = 11) (e : so m = nI s)
    (hX : ∀ post : Int32 → Prop, post 1 → wpX_known post (hk_X c L so fl ns ow oq st ty) (nI k) (nI m)) (h51 : 51 ≤ v3) (post : Int32 → Prop)
    (H0 : (hk_ft k s = 0 ∨ (hk_ft k s = 1 ∧ ¬ 52 ≤ v3)) → post 0)
    (H1 : (hk_ft k s = 2 ∨ (hk_ft k s = 1 ∧ 52 ≤ v3)) → wX_formatOk_106 post (nI k) (nI m) (nI c) (nI (hk_sm L c)) so fl ns ow oq st (fun m => nI (L m)) ty) :
    wpX_formatOk post (hk_X c L so fl ns ow oq st ty) (nI k) (nI m) v3 := by
  have cm : so (nI m).toNatClampNeg = nI s := by rw [nI_clamp (by omega)]; exact e
  have hin : vp_in (nI m) 4 := vp_in_nI hm (by decide)
  unfold wpX_formatOk
  refine hX _ (br_f (by decide) (br_t h51 ⟨hin, nm_r cm ?_⟩))
  clear cm e hX
  by_cases h52 : 52 ≤ v3
  · rcases hs with rfl | rfl | rfl <;> rcases hk_kc hk1 hk9 with rfl | rfl | rfl | rfl | rfl | rfl | rfl | rfl | rfl <;>
      (repeat first | exact H0 (Or.inl (by decide)) | exact H1 (Or.inl (by decide)) | exact H1 (Or.inr ⟨by decide, h52⟩) | refine br_t (by decide) ?_ | refine br_f (by decide) ?_ | refine br_t h52 ?_)
  · rcases hs with rfl | rfl | rfl <;> rcases hk_kc hk1 hk9 with rfl | rfl | rfl | rfl | rfl | rfl | rfl | rfl | rfl <;>
      (repeat first | exact H0 (Or.inl (by decide)) | exact H1 (Or.inl (by decide)) | exact H0 (Or.inr ⟨by decide, h52⟩) | refine br_t (by decide) ?_ | refine br_f (by decide) ?_ | refine br_f h52 ?_)
theorem hk_ftr (k s : Nat) : hk_ft k s = 0 ∨ hk_ft k s = 1 ∨ hk_ft k s = 2 := by
  unfold hk_ft
  repeat' split
  all_goals decide
/-- the format check of a known pair: one answer -/
theorem hk_fmt (h : hk_F c L so ow st ty row) (hk1 : 1 ≤ k) (hk9 : k ≤ 9) (hm : m < c) (hL : 1 ≤ L m) (v3 : Int32)
    (hX : ∀ post : Int32 → Prop, post 1 → wpX_known post (hk_X c L so fl ns ow oq st ty) (nI k) (nI m))
    (hY : ∀ post : Int32 → Prop, post 1 → wpY_known post (hk_Y c L so fl ns ow oq row sig) (nI k) (nI m)) :
    ∃ r : Int32, (r = 0 ∨ r = 1) ∧
      (∀ post : Int32 → Prop, post r → wpX_formatOk post (hk_X c L so fl ns ow oq st ty) (nI k) (nI m) v3) ∧
      (∀ post : Int32 → Prop, post r → wpY_formatOk post (hk_Y c L so fl ns ow oq row sig) (nI k) (nI m) v3) := by
  have h4 : c ≤ 4 := h.1
  by_cases h51 : 51 ≤ v3
  case neg =>
    refine ⟨0, Or.inl rfl, fun post hp => ?_, fun post hp => ?_⟩
    · unfold wpX_formatOk
      exact hX _ (br_f (by decide) (br_f h51 hp))
    · unfold wpY_formatOk
      exact hY _ (br_f (by decide) (br_f h51 hp))
  obtain ⟨s, hs, e⟩ := hk_sor (h.2.2 m hm)
  obtain ⟨r, hr, tX, tY⟩ := hk_tail (k := k) (fl := fl) (ns := ns) (oq := oq) (sig := sig) h hm hL
  rcases hk_ftr k s with f | f | f
  · refine ⟨0, Or.inl rfl, fun post hp => hk_fx hk1 hk9 (by omega) hs e hX h51 post (fun _ => hp) (fun q => ?_), fun post hp => ?_⟩
    · rcases q with q | q
      · omega
      · have := q.1; omega
    · unfold wpY_formatOk
      refine hY _ (br_f (by decide) (br_t h51 (hk_fits hk1 hk9 (by omega) hs e _ ?_)))
      rw [f]
      exact br_t rfl hp
  · by_cases h52 : 52 ≤ v3
    · refine ⟨r, hr, fun post hp => hk_fx hk1 hk9 (by omega) hs e hX h51 post (fun q => ?_) (fun _ => tX post hp), fun post hp => ?_⟩
      · rcases q with q | q
        · omega
        · exact absurd h52 q.2
      · unfold wpY_formatOk
        refine hY _ (br_f (by decide) (br_t h51 (hk_fits hk1 hk9 (by omega) hs e _ ?_)))
        rw [f]
        exact br_f (by decide) (br_t rfl (br_t h52 (tY post hp)))
    · refine ⟨0, Or.inl rfl, fun post hp => hk_fx hk1 hk9 (by omega) hs e hX h51 post (fun _ => hp) (fun q => ?_), fun post hp => ?_⟩
      · rcases q with q | q
        · omega
        · exact absurd q.2 h52
      · unfold wpY_formatOk
        refine hY _ (br_f (by decide) (br_t h51 (hk_fits hk1 hk9 (by omega) hs e _ ?_)))
        rw [f]
        exact br_f (by decide) (br_t rfl (br_f h52 hp))
  · refine ⟨r, hr, fun post hp => hk_fx hk1 hk9 (by omega) hs e hX h51 post (fun q => ?_) (fun _ => tX post hp), fun post hp => ?_⟩
    · rcases q with q | q
      · omega
      · have := q.1; omega
    · unfold wpY_formatOk
      refine hY _ (br_f (by decide) (br_t h51 (hk_fits hk1 hk9 (by omega) hs e _ ?_)))
      rw [f]
      exact br_f (by decide) (br_f (by decide) (tY post hp))
end
theorem i_vc_formatOk {k : Nat} {u : SX} {v : SY} (I : i_Rel k u v) (hk : k + 6 ≤ 3072) (v1 : Int32) (v2 : Int32) (v3 : Int32) : wpX_formatOk (fun r => wpY_formatOk (fun r' => r' = r ∧ i_Rel (k + 6) u v) v v1 v2 v3) u v1 v2 v3 := by
  obtain ⟨c, L, so, fl, ns, ow, oq, st, ty, row, sig, rfl, rfl, h⟩ := I
  rcases hk_known (fl := fl) (ns := ns) (oq := oq) (sig := sig) h v1 v2 with ⟨q, m, hq1, hq9, hm, hL, rfl, rfl, hX, hY⟩ | ⟨hX, hY⟩
  · obtain ⟨r, _, fX, fY⟩ := hk_fmt h hq1 hq9 hm hL v3 hX hY
    exact fX _ (fY _ ⟨rfl, hk_rel sig h⟩)
  · unfold wpX_formatOk wpY_formatOk
    exact hX _ (br_t rfl (hY _ (br_t rfl ⟨rfl, hk_rel sig h⟩)))
end
section
/-! resolve: the two sides walk alike -/
section
variable {k m c : Nat} {L : Nat → Nat} {so fl ns ow oq st ty row sig : Nat → Int32}
theorem hk_r122 (v1 : Int32) {z : Int32} (hz : z = 0 ∨ z = 1) :
    ∃ r : Int32, (r = 0 ∨ r = 4) ∧
      (∀ post : Int32 → Prop, post r → wX_resolve_122 post v1 z (nI c) (nI (hk_sm L c)) so fl ns ow oq st (fun m => nI (L m)) ty) ∧
      (∀ post : Int32 → Prop, post r → wY_resolve_114 post v1 z (nI c) so fl ns ow oq (fun m => nI (L m)) row sig) := by
  by_cases k2 : v1 = 2
  · rcases hz with rfl | rfl
    · exact ⟨4, Or.inr rfl, fun _ hp => br_t k2 (br_t rfl hp), fun _ hp => br_t k2 (br_f (by decide) hp)⟩
    · exact ⟨0, Or.inl rfl, fun _ hp => br_t k2 (br_f (by decide) hp), fun _ hp => br_t k2 (br_t rfl hp)⟩
  by_cases k4 : v1 = 4
  · rcases hz with rfl | rfl
    · exact ⟨4, Or.inr rfl, fun _ hp => br_f k2 (br_t k4 (br_t rfl hp)), fun _ hp => br_f k2 (br_t k4 (br_f (by decide) hp))⟩
    · exact ⟨0, Or.inl rfl, fun _ hp => br_f k2 (br_t k4 (br_f (by decide) hp)), fun _ hp => br_f k2 (br_t k4 (br_t rfl hp))⟩
  by_cases k6 : v1 = 6
  · rcases hz with rfl | rfl
    · exact ⟨4, Or.inr rfl, fun _ hp => br_f k2 (br_f k4 (br_t k6 (br_t rfl hp))), fun _ hp => br_f k2 (br_f k4 (br_t k6 (br_f (by decide) hp)))⟩
    · exact ⟨0, Or.inl rfl, fun _ hp => br_f k2 (br_f k4 (br_t k6 (br_f (by decide) hp))), fun _ hp => br_f k2 (br_f k4 (br_t k6 (br_t rfl hp)))⟩
  rcases hz with rfl | rfl
  · exact ⟨0, Or.inl rfl, fun _ hp => br_f k2 (br_f k4 (br_f k6 (br_t rfl hp))), fun _ hp => br_f k2 (br_f k4 (br_f k6 (br_t rfl hp)))⟩
  · exact ⟨4, Or.inr rfl, fun _ hp => br_f k2 (br_f k4 (br_f k6 (br_f (by decide) hp))), fun _ hp => br_f k2 (br_f k4 (br_f k6 (br_f (by decide) hp)))⟩
theorem hk_r97 (v1 : Int32) (hm : m < 4) :
    ∃ r : Int32,
      (∀ post : Int32 → Prop, post r → wX_resolve_97 post v1 (nI m) (nI c) (nI (hk_sm L c)) so fl ns ow oq st (fun m => nI (L m)) ty) ∧
      (∀ post : Int32 → Prop, post r → wY_resolve_89 post v1 (nI m) (nI c) so fl ns ow oq (fun m => nI (L m)) row sig) := by
  have hin : vp_in (nI m) 4 := vp_in_nI hm (by decide)
  by_cases k8 : v1 = 8
  · exact ⟨0, fun _ hp => br_t k8 hp, fun _ hp => br_t k8 hp⟩
  by_cases f8 : fl (nI m).toNatClampNeg &&& 8 = 0
  · obtain ⟨r, _, hX, hY⟩ := hk_r122 (c := c) (L := L) (so := so) (fl := fl) (ns := ns) (ow := ow) (oq := oq) (st := st) (ty := ty) (row := row) (sig := sig) v1 (z := 0) (Or.inl rfl)
    exact ⟨r, fun post hp => br_f k8 ⟨hin, br_t f8 (hX post hp)⟩, fun post hp => br_f k8 ⟨hin, br_t f8 (hY post hp)⟩⟩
  · obtain ⟨r, _, hX, hY⟩ := hk_r122 (c := c) (L := L) (so := so) (fl := fl) (ns := ns) (ow := ow) (oq := oq) (st := st) (ty := ty) (row := row) (sig := sig) v1 (z := 1) (Or.inr rfl)
    exact ⟨r, fun post hp => br_f k8 ⟨hin, br_f f8 (hX post hp)⟩, fun post hp => br_f k8 ⟨hin, br_f f8 (hY post hp)⟩⟩
theorem hk_r69 (v1 : Int32) (hm : m < 4) {z : Int32} (hz : z = 0 ∨ z = 1) :
    ∃ r : Int32,
      (∀ post : Int32 → Prop, post r → wX_resolve_69 post v1 (nI m) (so (nI m).toNatClampNeg) z (nI c) (nI (hk_sm L c)) so fl ns ow oq st (fun m => nI (L m)) ty) ∧
      (∀ post : Int32 → Prop, post r → wY_resolve_54 post v1 (nI m) z (nI c) so fl ns ow oq (fun m => nI (L m)) row sig) := by
  have hin : vp_in (nI m) 4 := vp_in_nI hm (by decide)
  obtain ⟨r, hX, hY⟩ := hk_r97 (c := c) (L := L) (so := so) (fl := fl) (ns := ns) (ow := ow) (oq := oq) (st := st) (ty := ty) (row := row) (sig := sig) v1 hm
  by_cases s10 : so (nI m).toNatClampNeg = 10
  · have s11 : ¬ so (nI m).toNatClampNeg = 11 := by rw [s10]; decide
    by_cases z0 : z = 0
    · exact ⟨r, fun post hp => br_t s10 (br_t z0 (br_f s11 (hX post hp))), fun post hp => And.intro hin (br_t s10 (br_t z0 (And.intro hin (br_f s11 (hY post hp)))))⟩
    · exact ⟨3, fun post hp => br_t s10 (br_f z0 hp), fun post hp => And.intro hin (br_t s10 (br_f z0 hp))⟩
  by_cases s11 : so (nI m).toNatClampNeg = 11
  · by_cases z0 : z = 0
    · exact ⟨3, fun post hp => br_f s10 (br_t s11 (br_t z0 hp)), fun post hp => And.intro hin (br_f s10 (And.intro hin (br_t s11 (br_t z0 hp))))⟩
    · exact ⟨r, fun post hp => br_f s10 (br_t s11 (br_f z0 (hX post hp))), fun post hp => And.intro hin (br_f s10 (And.intro hin (br_t s11 (br_f z0 (hY post hp)))))⟩
  exact ⟨r, fun post hp => br_f s10 (br_f s11 (hX post hp)), fun post hp => And.intro hin (br_f s10 (And.intro hin (br_f s11 (hY post hp))))⟩
/-- behind the format check, where fits doesn't answer 1 -/
def hk_yr (post : Int32 → Prop) (p0 p1 : Int32) (c : Nat) (L : Nat → Nat) (so fl ns ow oq row sig : Nat → Int32) : Prop :=
  vp_in p1 4 ∧ ((((oq p1.toNatClampNeg) &&& 512) = 0 → (wY_resolve_54 post p0 p1 0 (nI c) so fl ns ow oq (fun m => nI (L m)) row sig)) ∧ (¬ ((oq p1.toNatClampNeg) &&& 512) = 0 → (wY_resolve_54 post p0 p1 1 (nI c) so fl ns ow oq (fun m => nI (L m)) row sig)))
theorem hk_r51 (v1 : Int32) (hm : m < 4) :
    ∃ r : Int32,
      (∀ post : Int32 → Prop, post r → wX_resolve_51 post v1 (nI m) (so (nI m).toNatClampNeg) (nI c) (nI (hk_sm L c)) so fl ns ow oq st (fun m => nI (L m)) ty) ∧
      (∀ post : Int32 → Prop, post r → hk_yr post v1 (nI m) c L so fl ns ow oq row sig) := by
  have hin : vp_in (nI m) 4 := vp_in_nI hm (by decide)
  by_cases o : oq (nI m).toNatClampNeg &&& 512 = 0
  · obtain ⟨r, hX, hY⟩ := hk_r69 (c := c) (L := L) (so := so) (fl := fl) (ns := ns) (ow := ow) (oq := oq) (st := st) (ty := ty) (row := row) (sig := sig) v1 hm (z := 0) (Or.inl rfl)
    exact ⟨r, fun post hp => And.intro hin (br_t o (hX post hp)), fun post hp => And.intro hin (br_t o (hY post hp))⟩
  · obtain ⟨r, hX, hY⟩ := hk_r69 (c := c) (L := L) (so := so) (fl := fl) (ns := ns) (ow := ow) (oq := oq) (st := st) (ty := ty) (row := row) (sig := sig) v1 hm (z := 1) (Or.inr rfl)
    exact ⟨r, fun post hp => And.intro hin (br_f o (hX post hp)), fun post hp => And.intro hin (br_f o (hY post hp))⟩
theorem hk_ft1 (k s : Nat) : (hk_ft k s = 1 → (k = 6 ∨ k = 7) ∧ ¬ s = 9 ∧ ¬ s = 10) ∧ (k = 6 → s = 11 → hk_ft k s = 1) ∧ (k = 7 → s = 11 → hk_ft k s = 1) := by
  refine ⟨fun q => ?_, fun a b => by subst a; subst b; rfl, fun a b => by subst a; subst b; rfl⟩
  unfold hk_ft at q
  repeat' split at q
  all_goals omega
theorem hk_res (h : hk_F c L so ow st ty row) (v1 v2 : Int32) :
    ∃ r : Int32, (r = 0 → ∃ k m : Nat, 1 ≤ k ∧ k ≤ 9 ∧ m < c ∧ 1 ≤ L m ∧ v1 = nI k ∧ v2 = nI m) ∧
      (∀ post : Int32 → Prop, post r → wpX_resolve post (hk_X c L so fl ns ow oq st ty) v1 v2) ∧
      (∀ post : Int32 → Prop, post r → wpY_resolve post (hk_Y c L so fl ns ow oq row sig) v1 v2) := by
  have h4 : c ≤ 4 := h.1
  rcases hk_known (fl := fl) (ns := ns) (oq := oq) (sig := sig) h v1 v2 with ⟨k, m, hk1, hk9, hm, hL, rfl, rfl, hX, hY⟩ | ⟨hX, hY⟩
  case inr =>
    refine ⟨-1, fun q => absurd q (by decide), fun post hp => ?_, fun post hp => ?_⟩
    · unfold wpX_resolve
      exact hX _ (br_t rfl hp)
    · unfold wpY_resolve
      exact hY _ (br_t rfl hp)
  obtain ⟨f, hf, fX, fY⟩ := hk_fmt h hk1 hk9 hm hL 52 hX hY
  have hin : vp_in (nI m) 4 := vp_in_nI (by omega) (by decide)
  rcases hf with rfl | rfl
  · refine ⟨1, fun q => absurd q (by decide), fun post hp => ?_, fun post hp => ?_⟩
    · unfold wpX_resolve
      exact hX _ (br_f (by decide) (fX _ (br_t rfl hp)))
    · unfold wpY_resolve
      exact hY _ (br_f (by decide) (fY _ (br_t rfl hp)))
  obtain ⟨s, hs, e⟩ := hk_sor (h.2.2 m hm)
  have es : so (nI m).toNatClampNeg = nI s := by rw [nI_clamp (by omega)]; exact e
  have hft := hk_ft1 k s
  by_cases f1 : hk_ft k s = 1
  · have hs11 : s = 11 := by have := hft.1 f1; omega
    have e11 : so (nI m).toNatClampNeg = 11 := by rw [es, hs11]; rfl
    refine ⟨2, fun q => absurd q (by decide), fun post hp => ?_, fun post hp => ?_⟩
    · unfold wpX_resolve
      refine hX _ (br_f (by decide) (fX _ (br_f (by decide) ⟨hin, nm_e ?_⟩)))
      rcases (hft.1 f1).1 with rfl | rfl
      · exact br_t rfl (br_t e11 hp)
      · exact br_f (by decide) (br_t rfl (br_t e11 hp))
    · unfold wpY_resolve
      refine hY _ (br_f (by decide) (fY _ (br_f (by decide) (hk_fits hk1 hk9 (by omega) hs e _ ?_))))
      rw [f1]
      exact br_t rfl hp
  · obtain ⟨r, rX, rY⟩ := hk_r51 (c := c) (L := L) (so := so) (fl := fl) (ns := ns) (ow := ow) (oq := oq) (st := st) (ty := ty) (row := row) (sig := sig) (nI k) (show m < 4 by omega)
    refine ⟨r, fun _ => ⟨k, m, hk1, hk9, hm, hL, rfl, rfl⟩, fun post hp => ?_, fun post hp => ?_⟩
    · unfold wpX_resolve
      refine hX _ (br_f (by decide) (fX _ (br_f (by decide) ⟨hin, nm_e ?_⟩)))
      by_cases k6 : nI k = 6
      · have k6' : k = 6 := (nI_eq (b := 6) (by omega) (by decide)).mp k6
        have n11 : ¬ so (nI m).toNatClampNeg = 11 := fun q => by
          rw [es] at q
          exact f1 (hft.2.1 k6' ((nI_eq (b := 11) (by omega) (by decide)).mp q))
        exact br_t k6 (br_f n11 (rX post hp))
      by_cases k7 : nI k = 7
      · have k7' : k = 7 := (nI_eq (b := 7) (by omega) (by decide)).mp k7
        have n11 : ¬ so (nI m).toNatClampNeg = 11 := fun q => by
          rw [es] at q
          exact f1 (hft.2.2 k7' ((nI_eq (b := 11) (by omega) (by decide)).mp q))
        exact br_f k6 (br_t k7 (br_f n11 (rX post hp)))
      exact br_f k6 (br_f k7 (rX post hp))
    · unfold wpY_resolve
      refine hY _ (br_f (by decide) (fY _ (br_f (by decide) (hk_fits hk1 hk9 (by omega) hs e _ ?_))))
      have n1 : ¬ nI (hk_ft k s) = 1 := fun q => f1 ((nI_eq (b := 1) (by have := hk_ftr k s; omega) (by decide)).mp q)
      exact br_f n1 (rY post hp)
end
theorem i_vc_resolve {k : Nat} {u : SX} {v : SY} (I : i_Rel k u v) (hk : k + 6 ≤ 3072) (v1 : Int32) (v2 : Int32) : wpX_resolve (fun r => wpY_resolve (fun r' => r' = r ∧ i_Rel (k + 6) u v) v v1 v2) u v1 v2 := by
  obtain ⟨c, L, so, fl, ns, ow, oq, st, ty, row, sig, rfl, rfl, h⟩ := I
  obtain ⟨r, _, rX, rY⟩ := hk_res (fl := fl) (ns := ns) (oq := oq) (sig := sig) h v1 v2
  exact rX _ (rY _ ⟨rfl, hk_rel sig h⟩)
end
section
/-! arity and the derived type: the reference writes it out, the component answers it cell by cell -/
def hk_ar (k n : Nat) : Nat := if k = 1 then 1 else if k = 2 then 0 else if k = 3 then 2 else if k = 4 then 1 else if k = 6 then n - 1 else if k = 8 then n - 1 else n
/-- the return type -/
def hk_s0 (k : Nat) (C T : Int32) : Int32 := if k = 3 then 0 else if k = 4 then 0 else if k = 8 then C else T
/-- the parameter j -/
def hk_s1 (k j : Nat) (C : Int32) (R : Nat → Int32) : Int32 := if k = 1 then C else if k = 3 then (if j = 0 then C else R 0) else if k = 4 then R 0 else if k = 6 then R (j + 1) else if k = 8 then R (j + 1) else if j = 0 then C else R j
section
variable {k m c : Nat} {L : Nat → Nat} {so fl ns ow oq st ty row : Nat → Int32}
theorem hk_ar6 {n : Nat} (h : n ≤ 6) (h1 : 1 ≤ n) : hk_ar k n ≤ 6 := by
  unfold hk_ar
  repeat' split
  all_goals omega
theorem hk_ax (hk1 : 1 ≤ k) (hk9 : k ≤ 9) (hm : m < 4) (hL : 1 ≤ L m)
    (hr : ∀ post : Int32 → Prop, post 0 → wpX_resolve post (hk_X c L so fl ns ow oq st ty) (nI k) (nI m)) (post : Int32 → Prop) (hp : post (nI (hk_ar k (L m)))) :
    wpX_arity post (hk_X c L so fl ns ow oq st ty) (nI k) (nI m) := by
  have hin : vp_in (nI m) 4 := vp_in_nI hm (by decide)
  have e1 : nI (L (nI m).toNatClampNeg) = nI (L m) := by rw [nI_clamp (by omega)]
  have e2 : nI (L (nI m).toNatClampNeg) - 1 = nI (L m - 1) := by rw [e1]; exact pk_sub (b := 1) hL
  have p1 : post (nI (L m)) → post (nI (L (nI m).toNatClampNeg)) := fun q => by rw [e1]; exact q
  have p2 : post (nI (L m - 1)) → post (nI (L (nI m).toNatClampNeg) - 1) := fun q => by rw [e2]; exact q
  unfold wpX_arity
  refine hr _ (br_t rfl ?_)
  rcases hk_kc hk1 hk9 with rfl | rfl | rfl | rfl | rfl | rfl | rfl | rfl | rfl
  · exact br_t rfl hp
  · exact br_f (by decide) (br_t rfl hp)
  · exact br_f (by decide) (br_f (by decide) (br_t rfl hp))
  · exact br_f (by decide) (br_f (by decide) (br_f (by decide) (br_t rfl hp)))
  · exact br_f (by decide) (br_f (by decide) (br_f (by decide) (br_f (by decide) (br_f (by decide) (br_f (by decide) ⟨hin, p1 hp⟩)))))
  · exact br_f (by decide) (br_f (by decide) (br_f (by decide) (br_f (by decide) (br_t rfl ⟨hin, p2 hp⟩))))
  · exact br_f (by decide) (br_f (by decide) (br_f (by decide) (br_f (by decide) (br_f (by decide) (br_f (by decide) ⟨hin, p1 hp⟩)))))
  · exact br_f (by decide) (br_f (by decide) (br_f (by decide) (br_f (by decide) (br_f (by decide) (br_t rfl ⟨hin, p2 hp⟩)))))
  · exact br_f (by decide) (br_f (by decide) (br_f (by decide) (br_f (by decide) (br_f (by decide) (br_f (by decide) ⟨hin, p1 hp⟩)))))
/-- the reference's copying loop -/
theorem hk_y180 (hm : m < 4) (hL : L m ≤ 6) (hr : ∀ j, j < L m → vp_nar .short (row (m * 6 + j)) = row (m * 6 + j)) : ∀ (d i j : Nat) (sig : Nat → Int32), j + d = L m → i + d ≤ 7 →
    ∃ sig' : Nat → Int32, (∀ x, x ≤ i → sig' x = sig x) ∧ (∀ q, q < d → sig' (i + 1 + q) = row (m * 6 + (j + q))) ∧
      ∀ post : Int32 → SY → Prop, post (nI (i + d)) (hk_Y c L so fl ns ow oq row sig') →
        wY_build_180 post (nI m) (nI c) (d + 1) (nI i) (nI j) so fl ns ow oq (fun m => nI (L m)) row sig := by
  have hin : vp_in (nI m) 4 := vp_in_nI hm (by decide)
  have cm : (nI m).toNatClampNeg = m := nI_clamp (by omega)
  intro d
  induction d with
  | zero =>
    intro i j sig hj hi
    have hle : nI (L (nI m).toNatClampNeg) ≤ nI j := by rw [cm]; exact nI_le (by omega) (by omega)
    exact ⟨sig, fun _ _ => rfl, fun q hq => absurd hq (Nat.not_lt_zero q), fun post hp => And.intro hin (br_t hle hp)⟩
  | succ d ih =>
    intro i j sig hj hi
    obtain ⟨sig', h1, h2, h3⟩ := ih (i + 1) (j + 1) (upd sig (i + 1) (row (m * 6 + j))) (by omega) (by omega)
    have hle : ¬ nI (L (nI m).toNatClampNeg) ≤ nI j := by rw [cm]; exact nI_ge (by omega) (by omega)
    have ei : nI m * 6 + nI j = nI (m * 6 + j) := by rw [show (6 : Int32) = nI 6 from rfl, pk_mul, nI_add]
    have h24 : vp_in (nI m * 6 + nI j) 24 := by rw [ei]; exact vp_in_nI (by omega) (by decide)
    have h8 : vp_in (nI (i + 1)) 8 := vp_in_nI (by omega) (by decide)
    have es : upd sig (nI (i + 1)).toNatClampNeg (vp_nar .short (row (nI m * 6 + nI j).toNatClampNeg)) = upd sig (i + 1) (row (m * 6 + j)) := by
      rw [ei, nI_clamp (by omega), nI_clamp (by omega), hr j (by omega)]
    have en : i + 1 + d = i + (d + 1) := by omega
    refine ⟨sig', fun x hx => (h1 x (by omega)).trans (pk_un (by omega)), fun q hq => ?_, fun post hp => ?_⟩
    · match q with
      | 0 => exact (h1 (i + 1) (Nat.le_refl _)).trans pk_us
      | q + 1 =>
        have e1 : i + 1 + (q + 1) = i + 1 + 1 + q := by omega
        have e2 : j + (q + 1) = j + 1 + q := by omega
        rw [e1, e2]
        exact h2 q (by omega)
    · exact And.intro hin (br_f hle (nm_r (nI_1 i) ⟨h24, h8, nm_r es (nm_r (nI_1 j) (h3 post (by rw [en]; exact hp)))⟩))
end
section
variable {k m c : Nat} {L : Nat → Nat} {so fl ns ow oq st ty row sig : Nat → Int32}
/-- what the reference's build leaves -/
theorem hk_by (hk1 : 1 ≤ k) (hk9 : k ≤ 9) (hm : m < 4) (hL : 1 ≤ L m) (hL6 : L m ≤ 6) (hC : vp_nar .short (ow m) = ow m) (hr : ∀ j, j < L m → vp_nar .short (row (m * 6 + j)) = row (m * 6 + j))
    (hY : ∀ post : Int32 → Prop, post 0 → wpY_resolve post (hk_Y c L so fl ns ow oq row sig) (nI k) (nI m)) :
    ∃ sig' : Nat → Int32, sig' 0 = hk_s0 k (ow m) (row (m * 6)) ∧ (∀ j, j < hk_ar k (L m) → sig' (j + 1) = hk_s1 k j (ow m) (fun i => row (m * 6 + i))) ∧
      ∀ post : Int32 → SY → Prop, post (nI (hk_ar k (L m))) (hk_Y c L so fl ns ow oq row sig') → wpY_build post (hk_Y c L so fl ns ow oq row sig) (nI k) (nI m) := by
  have hin : vp_in (nI m) 4 := vp_in_nI hm (by decide)
  have eC : ow (nI m).toNatClampNeg = ow m := by rw [nI_clamp (by omega)]
  have ei : nI m * 6 = nI (m * 6) := by rw [show (6 : Int32) = nI 6 from rfl, pk_mul]
  have h24 : vp_in (nI m * 6) 24 := by rw [ei]; exact vp_in_nI (by omega) (by decide)
  have eT : row (nI m * 6).toNatClampNeg = row (m * 6) := by rw [ei, nI_clamp (by omega)]
  have hT : vp_nar .short (row (m * 6)) = row (m * 6) := hr 0 (by omega)
  have h0 : vp_nar .short 0 = 0 := by rw [vp_nar_short]; decide
  have uT : ∀ (f : Nat → Int32) (i : Nat), upd f i (vp_nar .short (row (m * 6))) = upd f i (row (m * 6)) := fun f i => by rw [hT]
  have uC : ∀ (f : Nat → Int32) (i : Nat), upd f i (vp_nar .short (ow m)) = upd f i (ow m) := fun f i => by rw [hC]
  have u0 : ∀ (f : Nat → Int32) (i : Nat), upd f i (vp_nar .short 0) = upd f i 0 := fun f i => by rw [h0]
  have i0 : vp_in 0 8 := vp_in_nI (n := 0) (by decide) (by decide)
  have i1 : vp_in (nI 1) 8 := vp_in_nI (by decide) (by decide)
  have eA : 1 + (L m - 1) = L m := by omega
  have eB : 0 + (L m - 1) = L m - 1 := by omega
  -- the loop behind a receiver, and without one
  obtain ⟨g1, a1, a2, a3⟩ := hk_y180 (c := c) (so := so) (fl := fl) (ns := ns) (ow := ow) (oq := oq) hm hL6 hr (L m - 1) 1 1 (upd (upd sig 0 (row (m * 6))) 1 (ow m)) (by omega) (by omega)
  obtain ⟨g2, b1, b2, b3⟩ := hk_y180 (c := c) (so := so) (fl := fl) (ns := ns) (ow := ow) (oq := oq) hm hL6 hr (L m - 1) 0 1 (upd sig 0 (row (m * 6))) (by omega) (by omega)
  obtain ⟨g3, d1, d2, d3⟩ := hk_y180 (c := c) (so := so) (fl := fl) (ns := ns) (ow := ow) (oq := oq) hm hL6 hr (L m - 1) 0 1 (upd sig 0 (ow m)) (by omega) (by omega)
  have A0 : g1 0 = row (m * 6) := (a1 0 (by omega)).trans ((pk_un (by omega)).trans pk_us)
  have A1 : ∀ j, j < L m → g1 (j + 1) = if j = 0 then ow m else row (m * 6 + j) := by
    intro j hj
    by_cases q : j = 0
    · subst q
      rw [if_pos rfl]
      exact (a1 1 (Nat.le_refl _)).trans pk_us
    · rw [if_neg q]
      have := a2 (j - 1) (by omega)
      rw [show 1 + 1 + (j - 1) = j + 1 by omega, show 1 + (j - 1) = j by omega] at this
      exact this
  have B0 : g2 0 = row (m * 6) := (b1 0 (Nat.le_refl _)).trans pk_us
  have B1 : ∀ j, j < L m - 1 → g2 (j + 1) = row (m * 6 + (j + 1)) := by
    intro j hj
    have := b2 j hj
    rw [show 0 + 1 + j = j + 1 by omega] at this
    exact this
  have D0 : g3 0 = ow m := (d1 0 (Nat.le_refl _)).trans pk_us
  have D1 : ∀ j, j < L m - 1 → g3 (j + 1) = row (m * 6 + (j + 1)) := by
    intro j hj
    have := d2 j hj
    rw [show 0 + 1 + j = j + 1 by omega] at this
    exact this
  rw [eA] at a3
  rw [eB] at b3 d3
  rcases hk_kc hk1 hk9 with rfl | rfl | rfl | rfl | rfl | rfl | rfl | rfl | rfl
  · refine ⟨upd (upd sig 0 (row (m * 6))) 1 (ow m), (pk_un (by omega)).trans pk_us, fun j hj => ?_, fun post hp => ?_⟩
    · have hj : j < 1 := hj
      have e : j = 0 := by omega
      subst e
      exact pk_us
    · unfold wpY_build
      exact hY _ (br_t rfl ⟨hin, nm_r eC ⟨h24, nm_r eT (br_f (by decide) (br_f (by decide) (br_t rfl (nm_r (uT _ _) (nm_r (uC _ _) hp)))))⟩⟩)
  · refine ⟨upd sig 0 (row (m * 6)), pk_us, fun j hj => absurd hj (Nat.not_lt_zero j), fun post hp => ?_⟩
    unfold wpY_build
    exact hY _ (br_t rfl ⟨hin, nm_r eC ⟨h24, nm_r eT (br_f (by decide) (br_f (by decide) (br_f (by decide) (br_t rfl (nm_r (uT _ _) hp)))))⟩⟩)
  · refine ⟨upd (upd (upd sig 0 0) 1 (ow m)) 2 (row (m * 6)), (pk_un (by omega)).trans ((pk_un (by omega)).trans pk_us), fun j hj => ?_, fun post hp => ?_⟩
    · have hj : j < 2 := hj
      match j, hj with
      | 0, _ => exact (pk_un (by omega)).trans pk_us
      | 1, _ => exact pk_us
    · unfold wpY_build
      exact hY _ (br_t rfl ⟨hin, nm_r eC ⟨h24, nm_r eT (br_f (by decide) (br_f (by decide) (br_f (by decide) (br_f (by decide) (br_t rfl (nm_r (u0 _ _) (nm_r (uC _ _) (nm_r (uT _ _) hp))))))))⟩⟩)
  · refine ⟨upd (upd sig 0 0) 1 (row (m * 6)), (pk_un (by omega)).trans pk_us, fun j hj => ?_, fun post hp => ?_⟩
    · have hj : j < 1 := hj
      have e : j = 0 := by omega
      subst e
      exact pk_us
    · unfold wpY_build
      exact hY _ (br_t rfl ⟨hin, nm_r eC ⟨h24, nm_r eT (br_f (by decide) (br_f (by decide) (br_f (by decide) (br_f (by decide) (br_f (by decide) (br_t rfl (nm_r (u0 _ _) (nm_r (uT _ _) hp))))))))⟩⟩)
  · refine ⟨g1, A0, A1, fun post hp => ?_⟩
    unfold wpY_build
    refine hY _ (br_t rfl ⟨hin, nm_r eC ⟨h24, nm_r eT (br_f (by decide) (br_t (by decide) (br_f (by decide) ?_)))⟩⟩)
    exact And.intro i0 (nm_r (uT _ _) (br_t rfl (nm_r (e' := nI 1) rfl (And.intro i1 (nm_r (uC _ _) ⟨_, a3 post hp⟩)))))
  · refine ⟨g2, B0, B1, fun post hp => ?_⟩
    unfold wpY_build
    refine hY _ (br_t rfl ⟨hin, nm_r eC ⟨h24, nm_r eT (br_f (by decide) (br_t (by decide) (br_f (by decide) ?_)))⟩⟩)
    exact And.intro i0 (nm_r (uT _ _) (br_f (by decide) (br_f (by decide) (br_f (by decide) ⟨_, b3 post hp⟩))))
  · refine ⟨g1, A0, A1, fun post hp => ?_⟩
    unfold wpY_build
    refine hY _ (br_t rfl ⟨hin, nm_r eC ⟨h24, nm_r eT (br_f (by decide) (br_t (by decide) (br_f (by decide) ?_)))⟩⟩)
    exact And.intro i0 (nm_r (uT _ _) (br_f (by decide) (br_t rfl (nm_r (e' := nI 1) rfl (And.intro i1 (nm_r (uC _ _) ⟨_, a3 post hp⟩))))))
  · refine ⟨g3, D0, D1, fun post hp => ?_⟩
    unfold wpY_build
    refine hY _ (br_t rfl ⟨hin, nm_r eC ⟨h24, nm_r eT (br_f (by decide) (br_t (by decide) (br_t rfl ?_)))⟩⟩)
    exact And.intro i0 (nm_r (uC _ _) (br_f (by decide) (br_f (by decide) (br_f (by decide) ⟨_, d3 post hp⟩))))
  · refine ⟨g1, A0, A1, fun post hp => ?_⟩
    unfold wpY_build
    refine hY _ (br_t rfl ⟨hin, nm_r eC ⟨h24, nm_r eT (br_f (by decide) (br_t (by decide) (br_f (by decide) ?_)))⟩⟩)
    exact And.intro i0 (nm_r (uT _ _) (br_f (by decide) (br_f (by decide) (br_t rfl (nm_r (e' := nI 1) rfl (And.intro i1 (nm_r (uC _ _) ⟨_, a3 post hp⟩)))))))
end
end
section
/-! the component's typeAt against the same pure answers; then one outcome for arity, typeAt, typeKey -/
section
variable {k m c : Nat} {L : Nat → Nat} {so fl ns ow oq st ty : Nat → Int32}
theorem hk_txm {a : Nat} (hk1 : 1 ≤ k) (hk9 : k ≤ 9) (hm : m < 4) (hs : hk_sm L m < 6) (ha : a ≤ 6) (est : st m = nI (hk_sm L m))
    (hA : ∀ post : Int32 → Prop, post (nI a) → wpX_arity post (hk_X c L so fl ns ow oq st ty) (nI k) (nI m)) (post : Int32 → Prop) (hp : post (hk_s0 k (ow m) (ty (hk_sm L m)))) :
    wpX_typeAt post (hk_X c L so fl ns ow oq st ty) (nI k) (nI m) (-1) := by
  have hin : vp_in (nI m) 4 := vp_in_nI hm (by decide)
  have eS : st (nI m).toNatClampNeg = nI (hk_sm L m) := by rw [nI_clamp (by omega)]; exact est
  have eC : ow (nI m).toNatClampNeg = ow m := by rw [nI_clamp (by omega)]
  have i6 : vp_in (nI (hk_sm L m)) 6 := vp_in_nI hs (by decide)
  have eT : ty (nI (hk_sm L m)).toNatClampNeg = ty (hk_sm L m) := by rw [nI_clamp (by omega)]
  have ta : (nI a).toInt = (a : Int) := nI_toInt (by omega)
  have n1 : ¬ nI a = -1 := fun q => by
    rw [q, show (-1 : Int32).toInt = -1 from by decide] at ta
    omega
  have l1 : (-1 : Int32) < nI a := by
    rw [Int32.lt_iff_toInt_lt, ta, show (-1 : Int32).toInt = -1 from by decide]
    omega
  unfold wpX_typeAt
  refine hA _ (br_f n1 (br_f (by decide) (br_t l1 ⟨hin, nm_r eS ⟨hin, nm_r eC ⟨i6, nm_r eT (br_t rfl ?_)⟩⟩⟩)))
  rcases hk_kc hk1 hk9 with rfl | rfl | rfl | rfl | rfl | rfl | rfl | rfl | rfl
  · exact br_f (by decide) (br_f (by decide) (br_f (by decide) hp))
  · exact br_f (by decide) (br_f (by decide) (br_f (by decide) hp))
  · exact br_t rfl hp
  · exact br_f (by decide) (br_t rfl hp)
  · exact br_f (by decide) (br_f (by decide) (br_f (by decide) hp))
  · exact br_f (by decide) (br_f (by decide) (br_f (by decide) hp))
  · exact br_f (by decide) (br_f (by decide) (br_f (by decide) hp))
  · exact br_f (by decide) (br_f (by decide) (br_t rfl hp))
  · exact br_f (by decide) (br_f (by decide) (br_f (by decide) hp))
theorem hk_txj {j : Nat} (hk1 : 1 ≤ k) (hk9 : k ≤ 9) (hm : m < 4) (hL : 1 ≤ L m) (hs : hk_sm L m + L m ≤ 6) (est : st m = nI (hk_sm L m))
    (hA : ∀ post : Int32 → Prop, post (nI (hk_ar k (L m))) → wpX_arity post (hk_X c L so fl ns ow oq st ty) (nI k) (nI m)) (hj : j < hk_ar k (L m)) (post : Int32 → Prop)
    (hp : post (hk_s1 k j (ow m) (fun i => ty (hk_sm L m + i)))) :
    wpX_typeAt post (hk_X c L so fl ns ow oq st ty) (nI k) (nI m) (nI j) := by
  have hin : vp_in (nI m) 4 := vp_in_nI hm (by decide)
  have ha : hk_ar k (L m) ≤ 6 := hk_ar6 (by omega) hL
  have eS : st (nI m).toNatClampNeg = nI (hk_sm L m) := by rw [nI_clamp (by omega)]; exact est
  have eC : ow (nI m).toNatClampNeg = ow m := by rw [nI_clamp (by omega)]
  have i6 : vp_in (nI (hk_sm L m)) 6 := vp_in_nI (by omega) (by decide)
  have eT : ty (nI (hk_sm L m)).toNatClampNeg = ty (hk_sm L m) := by rw [nI_clamp (by omega)]
  have ta : (nI (hk_ar k (L m))).toInt = (hk_ar k (L m) : Int) := nI_toInt (by omega)
  have tj : (nI j).toInt = (j : Int) := nI_toInt (by omega)
  have n1 : ¬ nI (hk_ar k (L m)) = -1 := fun q => by
    rw [q, show (-1 : Int32).toInt = -1 from by decide] at ta
    omega
  have l0 : ¬ nI j < -1 := by
    rw [Int32.lt_iff_toInt_lt, tj, show (-1 : Int32).toInt = -1 from by decide]
    omega
  have l1 : nI j < nI (hk_ar k (L m)) := nI_lt hj (by omega)
  have nj : ¬ nI j = -1 := fun q => by
    rw [q, show (-1 : Int32).toInt = -1 from by decide] at tj
    omega
  have w130 : j < L m - 1 → post (ty (hk_sm L m + (j + 1))) → wX_typeAt_130 post (nI j) (nI (hk_sm L m)) (nI c) (nI (hk_sm L c)) so fl ns ow oq st (fun m => nI (L m)) ty := by
    intro q hq
    have e : (nI (hk_sm L m) + 1) + nI j = nI (hk_sm L m + (j + 1)) := by
      rw [nI_1, nI_add]
      exact congrArg nI (by omega)
    refine And.intro (by rw [e]; exact vp_in_nI (by omega) (by decide)) ?_
    rw [e, nI_clamp (by omega)]
    exact hq
  have wrec : j < L m → post (if j = 0 then ow m else ty (hk_sm L m + j)) → ((nI j = 0 → post (ow m)) ∧ (¬ nI j = 0 → (vp_in (nI (hk_sm L m) + nI j) 6 ∧ post (ty (nI (hk_sm L m) + nI j).toNatClampNeg)))) := by
    intro q hq
    by_cases z : j = 0
    · rw [if_pos z] at hq
      exact br_t (by rw [z]; rfl) hq
    · rw [if_neg z] at hq
      refine br_f (nI_ne0 (by omega) (by omega)) ⟨?_, ?_⟩
      · rw [nI_add]; exact vp_in_nI (by omega) (by decide)
      · rw [nI_add, nI_clamp (by omega)]; exact hq
  unfold wpX_typeAt
  refine hA _ (br_f n1 (br_f l0 (br_t l1 ⟨hin, nm_r eS ⟨hin, nm_r eC ⟨i6, nm_r eT (br_f nj ?_)⟩⟩⟩)))
  clear hA eS eC eT n1 l0 l1 ta
  rcases hk_kc hk1 hk9 with rfl | rfl | rfl | rfl | rfl | rfl | rfl | rfl | rfl
  · exact br_t rfl hp
  · exact absurd hj (Nat.not_lt_zero j)
  · refine br_f (by decide) (br_t rfl ?_)
    have hj : j < 2 := hj
    match j, hj, hp with
    | 0, _, hp => exact br_t rfl hp
    | 1, _, hp => exact br_f (by decide) hp
  · exact br_f (by decide) (br_f (by decide) (br_t rfl hp))
  · exact br_f (by decide) (br_f (by decide) (br_f (by decide) (br_f (by decide) (br_f (by decide) (wrec hj hp)))))
  · exact br_f (by decide) (br_f (by decide) (br_f (by decide) (br_t rfl (w130 hj hp))))
  · exact br_f (by decide) (br_f (by decide) (br_f (by decide) (br_f (by decide) (br_f (by decide) (wrec hj hp)))))
  · exact br_f (by decide) (br_f (by decide) (br_f (by decide) (br_f (by decide) (br_t rfl (w130 hj hp)))))
  · exact br_f (by decide) (br_f (by decide) (br_f (by decide) (br_f (by decide) (br_f (by decide) (wrec hj hp)))))
end
section
variable {c : Nat} {L : Nat → Nat} {so fl ns ow oq st ty row sig : Nat → Int32}
theorem hk_s1e {k j : Nat} {C : Int32} {R R' : Nat → Int32} {n : Nat} (hn : 1 ≤ n) (hk9 : k ≤ 9) (hj : j < hk_ar k n) (h : ∀ i, i < n → R i = R' i) : hk_s1 k j C R = hk_s1 k j C R' := by
  unfold hk_ar at hj
  unfold hk_s1
  have h0 := h 0 (by omega)
  repeat' split
  all_goals first
    | rfl
    | exact h0
    | (apply h; (repeat' split at hj) <;> omega)
/-- arity, build, typeAt: one outcome -/
theorem hk_bld (h : hk_F c L so ow st ty row) (v1 v2 : Int32) :
    (∃ (a : Nat) (sig' : Nat → Int32), a ≤ 6 ∧
      (∀ post : Int32 → Prop, post (nI a) → wpX_arity post (hk_X c L so fl ns ow oq st ty) v1 v2) ∧
      (∀ post : Int32 → SY → Prop, post (nI a) (hk_Y c L so fl ns ow oq row sig') → wpY_build post (hk_Y c L so fl ns ow oq row sig) v1 v2) ∧
      (∀ post : Int32 → Prop, post (sig' 0) → wpX_typeAt post (hk_X c L so fl ns ow oq st ty) v1 v2 (-1)) ∧
      (∀ j, j < a → ∀ post : Int32 → Prop, post (sig' (j + 1)) → wpX_typeAt post (hk_X c L so fl ns ow oq st ty) v1 v2 (nI j))) ∨
    ((∀ post : Int32 → Prop, post (-1) → wpX_arity post (hk_X c L so fl ns ow oq st ty) v1 v2) ∧
      (∀ post : Int32 → SY → Prop, post (-1) (hk_Y c L so fl ns ow oq row sig) → wpY_build post (hk_Y c L so fl ns ow oq row sig) v1 v2)) := by
  have h4 : c ≤ 4 := h.1
  obtain ⟨r, hr, rX, rY⟩ := hk_res (fl := fl) (ns := ns) (oq := oq) (sig := sig) h v1 v2
  by_cases r0 : r = 0
  case neg =>
    refine Or.inr ⟨fun post hp => ?_, fun post hp => ?_⟩
    · unfold wpX_arity
      exact rX _ (br_f r0 hp)
    · unfold wpY_build
      exact rY _ (br_f r0 hp)
  obtain ⟨k, m, hk1, hk9, hm, hL, rfl, rfl⟩ := hr r0
  subst r0
  have hM := h.2.2 m hm
  have hl := hk_L6 h hm
  have hA := hk_ax hk1 hk9 (show m < 4 by omega) hL rX
  obtain ⟨sig', g0, g1, gB⟩ := hk_by hk1 hk9 (show m < 4 by omega) hL (by omega) hM.2.2.1 (fun j hj => (hM.2.2.2 j hj).2) rY
  have e0 : row (m * 6) = ty (hk_sm L m) := (hM.2.2.2 0 (by omega)).1
  refine Or.inl ⟨hk_ar k (L m), sig', hk_ar6 (by omega) hL, hA, gB, fun post hp => ?_, fun j hj post hp => ?_⟩
  · rw [g0, e0] at hp
    exact hk_txm hk1 hk9 (by omega) (by omega) (hk_ar6 (by omega) hL) hM.2.1 hA post hp
  · rw [g1 j hj, hk_s1e hL hk9 hj (R' := fun i => ty (hk_sm L m + i)) (fun i hi => (hM.2.2.2 i hi).1)] at hp
    exact hk_txj hk1 hk9 (by omega) hL (by omega) hM.2.1 hA hj post hp
end
theorem i_vc_arity {k : Nat} {u : SX} {v : SY} (I : i_Rel k u v) (hk : k + 6 ≤ 3072) (v1 : Int32) (v2 : Int32) : wpX_arity (fun r => wpY_arity (fun r' v' => r' = r ∧ i_Rel (k + 6) u v') v v1 v2) u v1 v2 := by
  obtain ⟨c, L, so, fl, ns, ow, oq, st, ty, row, sig, rfl, rfl, h⟩ := I
  unfold wpY_arity
  rcases hk_bld (fl := fl) (ns := ns) (oq := oq) (sig := sig) h v1 v2 with ⟨a, sig', _, hA, hB, _, _⟩ | ⟨hA, hB⟩
  · exact hA _ (hB _ ⟨rfl, hk_rel sig' h⟩)
  · exact hA _ (hB _ ⟨rfl, hk_rel sig h⟩)
theorem hk_neg1 {a : Nat} (ha : a ≤ 6) : ¬ nI a = -1 := fun q => by
  have ta : (nI a).toInt = (a : Int) := nI_toInt (by omega)
  rw [q, show (-1 : Int32).toInt = -1 from by decide] at ta
  omega
theorem hk_lt1 {j : Nat} (hj : j < 2 ^ 31) : (-1 : Int32) < nI j := by
  rw [Int32.lt_iff_toInt_lt, nI_toInt hj, show (-1 : Int32).toInt = -1 from by decide]
  omega
theorem hk_nlt1 {j : Nat} (hj : j < 2 ^ 31) : ¬ nI j < (-1 : Int32) := by
  rw [Int32.lt_iff_toInt_lt, nI_toInt hj, show (-1 : Int32).toInt = -1 from by decide]
  omega
theorem hk_pr {x : Int32} (h : ¬ x < -1) : x = -1 ∨ ∃ j : Nat, j < 2 ^ 31 ∧ x = nI j := by
  by_cases h0 : x < 0
  · refine Or.inl (Int32.toInt_inj.mp ?_)
    rw [Int32.lt_iff_toInt_lt, show (-1 : Int32).toInt = -1 from by decide] at h
    rw [Int32.lt_iff_toInt_lt, show (0 : Int32).toInt = 0 from by decide] at h0
    rw [show (-1 : Int32).toInt = -1 from by decide]
    omega
  · exact Or.inr (nI_of h0)
theorem i_vc_typeAt {k : Nat} {u : SX} {v : SY} (I : i_Rel k u v) (hk : k + 6 ≤ 3072) (v1 : Int32) (v2 : Int32) (v3 : Int32) : wpX_typeAt (fun r => wpY_typeAt (fun r' v' => r' = r ∧ i_Rel (k + 6) u v') v v1 v2 v3) u v1 v2 v3 := by
  obtain ⟨c, L, so, fl, ns, ow, oq, st, ty, row, sig, rfl, rfl, h⟩ := I
  rcases hk_bld (fl := fl) (ns := ns) (oq := oq) (sig := sig) h v1 v2 with ⟨a, sig', ha, hA, hB, h0, h1⟩ | ⟨hA, hB⟩
  · have na := hk_neg1 ha
    have pa : ¬ nI a < 0 := nI_pos (by omega)
    have R := hk_rel (k := k + 6) (fl := fl) (ns := ns) (oq := oq) sig' h
    by_cases l : v3 < -1
    · unfold wpX_typeAt wpY_typeAt
      exact hA _ (br_f na (br_t l (hB _ (br_f pa (br_t l ⟨rfl, R⟩)))))
    rcases hk_pr l with rfl | ⟨j, hj, rfl⟩
    · refine h0 _ ?_
      unfold wpY_typeAt
      exact hB _ (br_f pa (br_f l (br_t (hk_lt1 (by omega)) ⟨vp_in_nI (n := 0) (by decide) (by decide), rfl, R⟩)))
    · by_cases ja : j < a
      · refine h1 j ja _ ?_
        unfold wpY_typeAt
        have e : nI j + 1 = nI (j + 1) := nI_1 j
        have i8 : vp_in (nI j + 1) 8 := by rw [e]; exact vp_in_nI (by omega) (by decide)
        have es : sig' (nI j + 1).toNatClampNeg = sig' (j + 1) := by rw [e, nI_clamp (by omega)]
        exact hB _ (br_f pa (br_f l (br_t (nI_lt ja (by omega)) ⟨i8, es, R⟩)))
      · have nl : ¬ nI j < nI a := nI_nlt (by omega) hj
        unfold wpX_typeAt wpY_typeAt
        exact hA _ (br_f na (br_f l (br_f nl (hB _ (br_f pa (br_f l (br_f nl ⟨rfl, R⟩)))))))
  · unfold wpX_typeAt wpY_typeAt
    exact hA _ (br_t rfl (hB _ (br_t (by decide) ⟨rfl, hk_rel sig h⟩)))
end
section
/-! typeKey: the component's Horner loop against the reference's powers -/
/-- the component's value before cell j -/
def hk_hz (s : Int64) (g : Nat → Int32) : Nat → Int64
  | 0 => s
  | j + 1 => hk_hz s g j * 1099511628211 + (g j).toInt64
theorem hk_hzs (s : Int64) (g : Nat → Int32) (j : Nat) : hk_hz s g j * 1099511628211 + (g j).toInt64 = hk_hz s g (j + 1) := rfl
theorem hk_ring (x h p t q : Int64) : x + t * q + h * (q * p) = x + (h * p + t) * q := by grind
section
variable {c : Nat} {L : Nat → Nat} {so fl ns ow oq st ty row sig : Nat → Int32}
theorem hk_yk (s : Int64) : ∀ j : Nat, j ≤ 7 → ∀ (x6 x8 : Int64) (post : Int64 → SY → Prop), post (x6 + hk_hz s sig j * x8) (hk_Y c L so fl ns ow oq row sig) →
    wY_typeKey_18 post s (nI c) so fl ns ow oq (fun m => nI (L m)) row sig (j + 1) x6 x8 (nI j - 1) := by
  intro j
  induction j with
  | zero =>
    intro _ x6 x8 post hp
    exact br_t (by decide) hp
  | succ j ih =>
    intro hj x6 x8 post hp
    have e6 : x6 + (sig (nI j).toNatClampNeg).toInt64 * x8 = x6 + (sig j).toInt64 * x8 := by rw [nI_clamp (by omega)]
    have er : x6 + (sig j).toInt64 * x8 + hk_hz s sig j * (x8 * 1099511628211) = x6 + hk_hz s sig (j + 1) * x8 := hk_ring _ _ _ _ _
    rw [nI_pred]
    refine br_f (nI_pos (by omega)) ⟨vp_in_nI (by omega) (by decide), nm_r e6 (nm_e (nm_r (Int32.sub_eq_add_neg _ _).symm (ih (by omega) _ _ post ?_)))⟩
    rw [er]
    exact hp
theorem hk_xk {v1 v2 : Int32} {a : Nat} (ha : a ≤ 6) (s : Int64)
    (h0 : ∀ post : Int32 → Prop, post (sig 0) → wpX_typeAt post (hk_X c L so fl ns ow oq st ty) v1 v2 (-1))
    (h1 : ∀ j, j < a → ∀ post : Int32 → Prop, post (sig (j + 1)) → wpX_typeAt post (hk_X c L so fl ns ow oq st ty) v1 v2 (nI j)) :
    ∀ d j : Nat, j + d = a + 1 → ∀ post : Int64 → Prop, post (hk_hz s sig (a + 1)) →
    wX_typeKey_22 post v1 v2 (nI a) (nI c) (nI (hk_sm L c)) so fl ns ow oq st (fun m => nI (L m)) ty (d + 1) (hk_hz s sig j) (nI j - 1) := by
  intro d
  induction d with
  | zero =>
    intro j hj post hp
    have e : j = a + 1 := by omega
    subst e
    rw [nI_pred]
    exact br_t (nI_le (Nat.le_refl _) (by omega)) hp
  | succ d ih =>
    intro j hj post hp
    have en : nI j - 1 + 1 = nI (j + 1) - 1 := by rw [nI_pred, Int32.sub_add_cancel]
    have nx := ih (j + 1) (by omega) post hp
    rcases Nat.eq_zero_or_pos j with e | e
    · subst e
      refine br_f ?_ (h0 _ (nm_r (hk_hzs s sig 0) (nm_r en nx)))
      exact fun q => absurd (Int32.lt_of_lt_of_le (hk_lt1 (show a < 2 ^ 31 by omega)) q) (by decide)
    · obtain ⟨i, rfl⟩ : ∃ i, j = i + 1 := ⟨j - 1, by omega⟩
      rw [nI_pred] at en ⊢
      exact br_f (nI_ge (by omega) (by omega)) (h1 i (by omega) _ (nm_r (hk_hzs s sig (i + 1)) (nm_r en nx)))
end
theorem i_vc_typeKey {k : Nat} {u : SX} {v : SY} (I : i_Rel k u v) (hk : k + 6 ≤ 3072) (v1 : Int32) (v2 : Int32) (a2 : Int64) : wpX_typeKey (fun r => wpY_typeKey (fun r' v' => r' = r ∧ i_Rel (k + 6) u v') v v1 v2 a2) u v1 v2 a2 := by
  obtain ⟨c, L, so, fl, ns, ow, oq, st, ty, row, sig, rfl, rfl, h⟩ := I
  unfold wpX_typeKey wpY_typeKey
  rcases hk_bld (fl := fl) (ns := ns) (oq := oq) (sig := sig) h v1 v2 with ⟨a, sig', ha, hA, hB, h0, h1⟩ | ⟨hA, hB⟩
  · have R := hk_rel (k := k + 6) (fl := fl) (ns := ns) (oq := oq) sig' h
    have X := hk_xk ha a2 h0 h1 (a + 1) 0 (by omega)
    have Y := hk_yk (c := c) (L := L) (so := so) (fl := fl) (ns := ns) (ow := ow) (oq := oq) (row := row) (sig := sig') a2 (a + 1) (by omega) 0 1
    rw [nI_pred] at Y
    have e : (0 : Int64) + hk_hz a2 sig' (a + 1) * 1 = hk_hz a2 sig' (a + 1) := by rw [Int64.zero_add, Int64.mul_one]
    refine hA _ (br_f (hk_neg1 ha) ⟨_, X _ (hB _ ⟨_, Y _ ⟨e, R⟩⟩)⟩)
  · have e : (0 : Int64) + a2 * 1 = a2 := by rw [Int64.zero_add, Int64.mul_one]
    exact hA _ (br_t rfl (hB _ ⟨1, br_t (by decide) ⟨e, hk_rel sig h⟩⟩))
end
