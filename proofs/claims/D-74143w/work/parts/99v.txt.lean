/-! the desk's text -/
set_option maxRecDepth 100000
section ZTX
variable {s0 s : State} {G : zG} {as0 : List Nat} {H : Heap} {locs : List Loc}
theorem zH_unswap {a b x : va_W} (hH : zH s0 s G as0 (a ++ (x ++ b)) H locs) : zH s0 s G as0 ((a ++ b) ++ x) H locs := zH_perm (by rw [List.append_assoc]; exact List.Perm.append_left a List.perm_append_comm) hH
end ZTX
/-- the desk's own object -/
def dkF (ad : Nat → Nat) (F : Nat → Int) : List Value := [.ref (ad 0), .int (iZ (F 1)), .int (iZ (F 2)), .int (iZ (F 3)), .ref (ad 200), .ref (ad 203), .int (iZ (F 6)), .int (iZ (F 7)), .int (iZ (F 8)), .int (iZ (F 9)), .ref (ad 10), .ref (ad 11), .ref (ad 12), .ref (ad 13), .int (iZ (F 14)), .ref (ad 15), .ref (ad 16), .int (iZ (F 17)), .ref (ad 18), .ref (ad 19), .int (iZ (F 20)), .int (iZ (F 21)), .int (iZ (F 22)), .ref (ad 206), .ref (ad 24)]
def MOD (v : Nat → Nat) (b n t i : Nat) (a : Nat → Int) : Prop := ∀ i1 j, i1 < i → i1 ≤ j → b * j < n → a (60 * i1 + j) = (md v (b * i1) (bEnd b j n) t : Int)
theorem MOD_s {v : Nat → Nat} {b n t i : Nat} {a a2 : Nat → Int} (hb : 2 ≤ b) (hn : n ≤ 120) (h : MOD v b n t i a) (hi : i < zdiv (n + b - 1) b) (hM : MOL v b n t i i (zdiv (n + b - 1) b) a a2 ∨ (zdiv (n + b - 1) b ≤ i ∧ a2 = a)) : MOD v b n t (i + 1) a2 := by
  have hM := hM.resolve_right (fun q => by omega)
  have h60 : zdiv (n + b - 1) b ≤ 60 := by
    rcases Nat.lt_or_ge 60 (zdiv (n + b - 1) b) with q | q
    · have h1 := (blk_lt (n := n) (j := 60) (show 0 < b by omega)).mp q
      have h2 : 2 * 60 ≤ b * 60 := Nat.mul_le_mul_right 60 hb
      omega
    · exact q
  intro i1 j h1 h2 h3
  have hj := (blk_lt (n := n) (j := j) (show 0 < b by omega)).mpr h3
  rcases Nat.lt_or_ge i1 i with q | q
  · rw [hM.2 _ (Or.inl (by omega))]
    exact h i1 j q h2 h3
  · obtain rfl : i1 = i := by omega
    exact hM.1 j h2 hj h3
set_option maxHeartbeats 16000000 in
theorem m_X1_text (lau : Launch) (s0 : State) (G : zG) (sz : Nat) (hcs : zCS s0) (hth : zThr s0) (wq wv : Nat → Nat) (hW : zRW s0 wq wv) (ad : Nat → Nat) (F : Nat → Int) (Ar : Nat → Nat → Int) (kp : Nat → Nat) (pl : Nat → Option Nat) (L : List Nat) (pr pa pm : Nat → Nat) (pf : Nat → Nat → Nat) (nw b t n : Nat) (v wt : Nat → Nat) (un : Nat) (hm : Nat → Nat) (hvv hww : Nat → Nat → Nat) (fr : Int) (hD : DST s0 G nw b t n v wt un hm hvv hww fr F Ar kp L pl pr pa pm pf) (hnw : zNwh s0 nw) (tt : Nat → Nat) (tp : Nat) (q ln fa fp : Int) (hF1 : F 1 = (tp : Int)) (htp : tp ≤ 900) (htt : ∀ i, i < tp → Ar 0 i = sb (tt i)) (htb : ∀ i, i < tp → tt i < 256) (hF2 : F 2 = fa) (hF3 : F 3 = fp) (hF6 : F 6 = ln) (hq : -2147483648 ≤ q ∧ q < 2147483648) : zhMet (S := Int × Nat × (Nat → Nat) × (Nat → Nat) × Nat × Nat × Int × Nat × Int × Int × Int × Nat × List Nat × (Nat → Option Nat) × (Nat → Nat) × (Nat → Nat) × (Nat → Nat) × (Nat → Nat → Nat) × (Nat → Int) × (Nat → Nat → Int)) lau yX1_text cX1_text 4 (some .int) [((42 : Nat), (46 : Nat), (49 : Nat), (104 : Nat))] 10 310 15566 133867 s0 G sz [.ref (ad 99), .int (iZ q)] (dW ad G F Ar kp pl (dPool G pr pa pm pf L)) (fun (r_, n2, v2, w2, b2, t2, ln2, un2, fr2, fa2, fp2, tp2, L2, pl2, pr2, pa2, pm2, pf2, F2, A2) => some (.int (iZ r_))) (fun (r_, n2, v2, w2, b2, t2, ln2, un2, fr2, fa2, fp2, tp2, L2, pl2, pr2, pa2, pm2, pf2, F2, A2) => Sp_text tt tp q n v wt b t ln un fr fa fp r_ n2 v2 w2 b2 t2 ln2 un2 fr2 fa2 fp2 tp2 ∧ DST s0 G nw b2 t2 n2 v2 w2 un2 hm hvv hww fr2 F2 A2 kp L2 pl2 pr2 pa2 pm2 pf2 ∧ (F2 1 = (tp2 : Int) ∧ F2 2 = fa2 ∧ F2 3 = fp2 ∧ F2 6 = ln2 ∧ A2 0 = Ar 0)) (fun (r_, n2, v2, w2, b2, t2, ln2, un2, fr2, fa2, fp2, tp2, L2, pl2, pr2, pa2, pm2, pf2, F2, A2) => dW ad G F2 A2 kp pl2 (dPool G pr2 pa2 pm2 pf2 L2)) := by
  refine zhMet.of (by decide) (Nat.le_of_ble_eq_true rfl) ?_
  intro pg ev s1 mi ar bl me cd ls Q as0 hC htbl hH hl hQ hsz
  generalize s1.heap = H at hH ⊢
  generalize ([] : List Loc) = locs at hH ⊢
  have hl : lv_has ls 4 [(0, .ref (ad 99)), (1, .int (iZ q))] := hl
  have hD0 := hD
  obtain ⟨⟨hn, hFn, hv, hAv, hwt, hAw⟩, ⟨hb, hFb, ht, hFt⟩, ⟨hun, hF14, hkt, hPD⟩, ⟨hS, hpc⟩, hmo, hfr, h16⟩ := hD
  refine z_iload_n hC 0 hl dX1_text_0 rfl 1 rfl ?_
  refine z_i2l hC 1 dX1_text_1 hq ?_
  refine z_lconst (a := 0) hC 2 dX1_text_2 rfl ?_
  refine z_aload_n hC 3 hl dX1_text_3 rfl 0 rfl ?_
  refine zp_get (v := .int (iZ (tp : Int))) hC hH.1 4 in_X1 rfl 1 (by decide) q207 0 rfl (by rw [← hF1]; rfl) dX1_text_4 ?_
  refine z_i2l hC 7 dX1_text_7 (by omega) ?_
  refine zp_back (zp_runS hC hH.2.2 hl.1 zp_nil 3 (As := [.long (lZ q), .long (lZ 0), .long (lZ (tp : Int))]) (rest := []) (u_X1_isIn lau s0 G q 0 (tp : Int) hq (by omega) (by omega)) (lw_S q303 q304 q89 q305) ⟨by decide, by decide, by decide +kernel⟩ rfl rfl (Nat.le_of_ble_eq_true rfl) ⟨Nat.le_of_ble_eq_true rfl, Nat.le_of_ble_eq_true rfl⟩ ⟨by first | decide | omega, by first | decide | omega⟩ dX1_text_8) (fun r hr => ?_)
  have hr : (r = 1 ∧ (0 ≤ q ∧ q ≤ (tp : Int))) ∨ (r = 0 ∧ ¬ (0 ≤ q ∧ q ≤ (tp : Int))) := hr
  refine z_st (st' := [.int (iZ r)]) rfl ?_
  rcases hr with ⟨rfl, hqr⟩ | ⟨rfl, hqr⟩
  · refine z_if_ne_t hC 11 17 dX1_text_11 rfl (by omega) (by omega) ?_
    obtain ⟨qn, rfl⟩ : ∃ qn : Nat, q = (qn : Int) := ⟨q.toNat, by omega⟩
    refine z_aload_n hC 17 hl dX1_text_17 rfl 0 rfl ?_
    refine z_iconst hC 18 dX1_text_18 ?_
    refine pD_1 hC hH 19 dX1_text_19 (fun H locs hH => ?_)
    have hH : zH s0 s1 G as0 (dW ad G (va_up F 1 (0)) Ar kp pl ((dPool G pr pa pm pf L))) H locs := hH
    refine z_aload_n hC 22 hl dX1_text_22 rfl 0 rfl ?_
    refine z_iconst hC 23 dX1_text_23 ?_
    refine pD_2 hC hH 24 dX1_text_24 (fun H locs hH => ?_)
    have hH : zH s0 s1 G as0 (dW ad G (va_up (va_up F 1 (0)) 2 (0)) Ar kp pl ((dPool G pr pa pm pf L))) H locs := hH
    refine z_aload_n hC 27 hl dX1_text_27 rfl 0 rfl ?_
    refine z_iconst hC 28 dX1_text_28 ?_
    refine pD_3 hC hH 29 dX1_text_29 (fun H locs hH => ?_)
    have hH : zH s0 s1 G as0 (dW ad G (va_up (va_up (va_up F 1 (0)) 2 (0)) 3 (-1)) Ar kp pl ((dPool G pr pa pm pf L))) H locs := hH
    obtain ⟨F1, hF1e⟩ : ∃ F1 : Nat → Int, F1 = (va_up (va_up (va_up F 1 (0)) 2 (0)) 3 (-1)) := ⟨_, rfl⟩
    rw [← hF1e] at hH
    obtain ⟨PW, hPWe⟩ : ∃ PW : va_W, PW = (dPool G pr pa pm pf L) := ⟨_, rfl⟩
    rw [← hPWe] at hH
    refine z_new (ci := 7) (N := 13) hC hH 32 [.int (0), .null, .int (0), .int (0), .int (0), .int (0), .int (0), .int (0), .int (0), .int (0), .int (0), .null, .null] tyX8 in_X8 tyX8_ok rfl q306 q307 q96 (fun j hj => by rcases (show j = 0 ∨ j = 1 ∨ j = 2 ∨ j = 3 ∨ j = 4 ∨ j = 5 ∨ j = 6 ∨ j = 7 ∨ j = 8 ∨ j = 9 ∨ j = 10 ∨ j = 11 ∨ j = 12 from by omega) with rfl | rfl | rfl | rfl | rfl | rfl | rfl | rfl | rfl | rfl | rfl | rfl | rfl <;> rfl) ⟨Nat.le_of_ble_eq_true rfl, Nat.le_of_ble_eq_true rfl⟩ dX1_text_32 (fun x0 H hH => ?_)
    have hH := zH_swap (a := dW0 ad G F1 Ar kp pl) (b := PW) hH
    have hH : zH s0 s1 G as0 (dW ad G F1 Ar kp pl ([(x0, .inr (7, [.int (0), .null, .int (0), .int (0), .int (0), .int (0), .int (0), .int (0), .int (0), .int (0), .int (0), .null, .null]))] ++ PW)) H locs := hH
    refine z_dup hC 35 dX1_text_35 rfl ?_
    refine z_aload_n hC 36 hl dX1_text_36 rfl 0 rfl ?_
    refine z_iload_n hC 37 hl dX1_text_37 rfl 1 rfl ?_
    refine z_subN (z_runI hC hH.2.2 hl.1 (z_subP hH.1 [60] rfl) (z_subD hH.2.1 [60] (by decide) rfl) 2 (As := [.ref (ad 99), .int (iZ (qn : Int))]) (rest := [.ref x0]) (m_X8_init lau s0 G _ x0 (ad 99) (qn : Int)) (lw_meth q310) q308 ⟨q96, q309⟩ rfl ⟨by decide, by decide, by decide +kernel⟩ rfl rfl (Nat.le_of_ble_eq_true rfl) ⟨Nat.le_of_ble_eq_true rfl, Nat.le_of_ble_eq_true rfl⟩ ⟨Nat.le_of_ble_eq_true rfl, Nat.le_of_ble_eq_true rfl⟩ dX1_text_38) hH [60] rfl (by decide) (fun _ => rfl) (fun u9 H locs _ hH => ?_)
    obtain ⟨x10, x7, x15⟩ := u9
    have hH : zH s0 s1 G as0 ((dW0 ad G F1 Ar kp pl ++ ([(x0, .inr (7, [.int (iZ (qn : Int)), .ref x10, .int (0), .int (0), .int (0), .int (0), .int (0), .int (iZ (8)), .int (0), .int (0), .int (0), .null, .ref (ad 99)]))] ++ PW)) ++ [(x10, .inr (2, [.ref x7, .ref x15, .int (0)])), (x7, .inl (G.2 0, 120, .inl (zA (fun _ => 0)))), (x15, .inl (G.2 0, 120, .inl (zA (fun _ => 0))))]) H locs := hH
    have hH := zH_swap hH
    have hH : zH s0 s1 G as0 (dW ad G F1 Ar kp pl ([(x10, .inr (2, [.ref x7, .ref x15, .int (iZ ((0 : Nat) : Int))])), (x7, .inl (G.2 0, 120, .inl (zA (fun j => (((fun _ => 0 : Nat → Nat) j : Nat) : Int))))), (x15, .inl (G.2 0, 120, .inl (zA (fun j => (((fun _ => 0 : Nat → Nat) j : Nat) : Int)))))] ++ ([(x0, .inr (7, [.int (iZ (qn : Int)), .ref x10, .int (iZ ((0 : Nat) : Int)), .int (iZ (0)), .int (iZ (0)), .int (iZ (0)), .int (iZ ((0 : Nat) : Int)), .int (iZ ((8 : Nat) : Int)), .int (iZ ((0 : Nat) : Int)), .int (iZ ((0 : Nat) : Int)), .int (iZ ((0 : Nat) : Int)), .null, .ref (ad 99)]))] ++ PW))) H locs := hH
    refine z_st (st' := [.ref x0]) rfl ?_
    refine z_astore_n (lv' := [(2, .ref x0), (0, .ref (ad 99)), (1, .int (iZ (qn : Int)))]) hC 41 hl dX1_text_41 rfl (by decide) rfl (fun ls hl => ?_)
    refine z_aload_n hC 42 hl dX1_text_42 rfl 0 rfl ?_
    have hT : RTX (fun j => [x0, x10, x7, x15, ad 99, ad 0].getD j 0) (dkF ad F1) (Ar 0) qn tt := ⟨rfl, by omega, fun i hi => htt i (by omega), fun i hi => htb i (by omega)⟩
    refine zx_sub (wc := rdW G (fun j => [x0, x10, x7, x15, ad 99, ad 0].getD j 0) (qn : Int) ((0 : Nat) : Int) 0 0 0 ((0 : Nat) : Int) ((8 : Nat) : Int) ((0 : Nat) : Int) ((0 : Nat) : Int) ((0 : Nat) : Int) ((0 : Nat) : Int) .null (fun j => (((fun _ => 0 : Nat → Nat) j : Nat) : Int)) (fun j => (((fun _ => 0 : Nat → Nat) j : Nat) : Int)) (dkF ad F1) (Ar 0)) (zx_runV hC hH.2.2 hl.1 (z_subP hH.1 [63, 60, 61, 62, 0, 4] rfl) (z_subD hH.2.1 [63, 60, 61, 62, 0, 4] (by decide) rfl) 0 (As := []) (rest := []) (m_R_reads lau s0 G _ hcs hth wq wv hW (fun j => [x0, x10, x7, x15, ad 99, ad 0].getD j 0) (dkF ad F1) (Ar 0) qn tt hT 0 0 0 .null) (lw_V q358 q359 q360 q96 q361) ⟨rfl, by decide, by decide, by decide +kernel⟩ (q0 := 0) (ci := 7) rfl rfl rfl rfl (Nat.le_of_ble_eq_true rfl) ⟨Nat.le_of_ble_eq_true rfl, Nat.le_of_ble_eq_true rfl⟩ ⟨Nat.le_of_ble_eq_true rfl, Nat.le_of_ble_eq_true rfl⟩ dX1_text_43) hH [63, 60, 61, 62, 0, 4] rfl (by decide) (fun _ => rfl) (fun k9 p9 q9 H9 locs9 hX hP9 hD9 hz9 hk9 hS9 => ?_) (fun u9 H locs hpost hH => ?_)
    · have hH0 : zH s0 s1 G as0 ((dW0 ad G F1 Ar kp pl ++ PW) ++ ([(x10, .inr (2, [.ref x7, .ref x15, .int (iZ ((0 : Nat) : Int))])), (x7, .inl (G.2 0, 120, .inl (zA (fun j => (((fun _ => 0 : Nat → Nat) j : Nat) : Int))))), (x15, .inl (G.2 0, 120, .inl (zA (fun j => (((fun _ => 0 : Nat → Nat) j : Nat) : Int)))))] ++ [(x0, .inr (7, [.int (iZ (qn : Int)), .ref x10, .int (iZ ((0 : Nat) : Int)), .int (iZ (0)), .int (iZ (0)), .int (iZ (0)), .int (iZ ((0 : Nat) : Int)), .int (iZ ((8 : Nat) : Int)), .int (iZ ((0 : Nat) : Int)), .int (iZ ((0 : Nat) : Int)), .int (iZ ((0 : Nat) : Int)), .null, .ref (ad 99)]))])) H locs := zH_unswap (x := ([(x10, .inr (2, [.ref x7, .ref x15, .int (iZ ((0 : Nat) : Int))])), (x7, .inl (G.2 0, 120, .inl (zA (fun j => (((fun _ => 0 : Nat → Nat) j : Nat) : Int))))), (x15, .inl (G.2 0, 120, .inl (zA (fun j => (((fun _ => 0 : Nat → Nat) j : Nat) : Int)))))] ++ [(x0, .inr (7, [.int (iZ (qn : Int)), .ref x10, .int (iZ ((0 : Nat) : Int)), .int (iZ (0)), .int (iZ (0)), .int (iZ (0)), .int (iZ ((0 : Nat) : Int)), .int (iZ ((8 : Nat) : Int)), .int (iZ ((0 : Nat) : Int)), .int (iZ ((0 : Nat) : Int)), .int (iZ ((0 : Nat) : Int)), .null, .ref (ad 99)]))])) hH
      have hH9 := zx_cat (i4 := 0) (i5 := 4) (e4 := (ad 99, .inr (1, dkF ad F1))) (e5 := (ad 0, .inl (G.2 1, 900, .inl (zA (Ar 0))))) hH0 hP9 hD9 hz9 hk9 hS9 rfl rfl (fun a ha => by
        have ha : a ∈ [x0, x10, x7, x15, ad 99, ad 0] := ha
        simp at ha ⊢
        omega)
      have hH9 := zH_swap (a := dW0 ad G F1 Ar kp pl) (b := PW) hH9
      have hH9 : zH s0 s1 G as0 (dW ad G F1 Ar kp pl ([(q9, .inr (8, [.null, .null, .null, .null, .null, .int (iZ 0), .int (iZ (k9 : Int)), .int (iZ (p9 : Int))]))] ++ PW)) H9 locs9 := hH9
      refine zh_catch (i9 := 60) hC htbl (by decide) (by decide) (by decide) q302 q595 hH9 rfl ?_
      clear hH
      have hH := hH9
      refine z_astore_n (lv' := [(3, .ref q9), (2, .ref x0), (0, .ref (ad 99)), (1, .int (iZ (qn : Int)))]) hC 49 hl dX1_text_49 rfl (by decide) rfl (fun ls hl => ?_)
      refine z_aload_n hC 50 hl dX1_text_50 rfl 2 rfl ?_
      refine z_aload_n hC 51 hl dX1_text_51 rfl 0 rfl ?_
      refine zp_getN (v := .int (iZ (k9 : Int))) hC hH.1 52 in_X9 rfl 6 (by decide) q643 60 rfl rfl dX1_text_52 ?_
      refine pD_2 hC hH 55 dX1_text_55 (fun H locs hH => ?_)
      have hH : zH s0 s1 G as0 (dW ad G (va_up F1 2 (k9 : Int)) Ar kp pl ([(q9, .inr (8, [.null, .null, .null, .null, .null, .int (iZ 0), .int (iZ (k9 : Int)), .int (iZ (p9 : Int))]))] ++ PW)) H locs := hH
      refine z_aload_n hC 58 hl dX1_text_58 rfl 2 rfl ?_
      refine z_aload_n hC 59 hl dX1_text_59 rfl 0 rfl ?_
      refine zp_getN (v := .int (iZ (p9 : Int))) hC hH.1 60 in_X9 rfl 7 (by decide) q645 60 rfl rfl dX1_text_60 ?_
      refine pD_3 hC hH 63 dX1_text_63 (fun H locs hH => ?_)
      have hH : zH s0 s1 G as0 (dW ad G (va_up (va_up F1 2 (k9 : Int)) 3 (p9 : Int)) Ar kp pl ([(q9, .inr (8, [.null, .null, .null, .null, .null, .int (iZ 0), .int (iZ (k9 : Int)), .int (iZ (p9 : Int))]))] ++ PW)) H locs := hH
      refine z_iconst hC 66 dX1_text_66 ?_
      have hH : zH s0 s1 G as0 (dW ad G (va_up (va_up F1 2 (k9 : Int)) 3 (p9 : Int)) Ar kp pl PW) H locs := zH_drop (a := dW0 ad G (va_up (va_up F1 2 (k9 : Int)) 3 (p9 : Int)) Ar kp pl) hH
      rw [hPWe, hF1e] at hH
      exact z_iret hC hH hQ 67 (-1, n, v, wt, b, t, ln, un, fr, (k9 : Int), (p9 : Int), 0, L, pl, pr, pa, pm, pf, (va_up (va_up (va_up (va_up (va_up F 1 (0)) 2 (0)) 3 (-1)) 2 (k9 : Int)) 3 (p9 : Int)), Ar) dX1_text_67 rfl ⟨Or.inr ⟨hqr, rfl, Or.inl ⟨k9, p9, hX, rfl, rfl, rfl, rfl, rfl, rfl, rfl, rfl, rfl, rfl, rfl⟩⟩, ⟨⟨hn, hFn, hv, hAv, hwt, hAw⟩, ⟨hb, hFb, ht, hFt⟩, ⟨hun, hF14, hkt, PASTD_cg hPD (fun k hk => by have := (kp_ge hkt (show k < 12 by omega)).1; (repeat rw [va_up_ne _ _ (by omega)])) (fun k hk => ⟨rfl, rfl⟩) (fun k hk => ⟨rfl, rfl, rfl⟩)⟩, ⟨hS, hpc⟩, hmo, hfr, h16⟩, rfl, rfl, rfl, hF6, rfl⟩ rfl (Nat.le_of_ble_eq_true rfl) (Nat.le_of_ble_eq_true rfl)
    · obtain ⟨m2, v2, w2, b2, t2, l2, x, e1, M, p, h2, k2, wd2⟩ := u9
      have hX : TXTr tt qn (.inr (m2, v2, w2, b2, t2, l2)) := hpost
      obtain ⟨⟨hm2, hvw⟩, hb2, hb2b, ht2⟩ := TXT_B hX
      have hH : zH s0 s1 G as0 (dW ad G F1 Ar kp pl ([(x10, .inr (2, [.ref x7, .ref x15, .int (iZ (m2 : Int))])), (x7, .inl (G.2 0, 120, .inl (zA (fun j => (v2 j : Int))))), (x15, .inl (G.2 0, 120, .inl (zA (fun j => (w2 j : Int)))))] ++ ([(x0, .inr (7, [.int (iZ (qn : Int)), .ref x10, .int (iZ (x : Int)), .int (iZ (e1 : Int)), .int (iZ M), .int (iZ (p : Int)), .int (iZ (l2 : Int)), .int (iZ (b2 : Int)), .int (iZ (t2 : Int)), .int (iZ (h2 : Int)), .int (iZ (k2 : Int)), wd2, .ref (ad 99)]))] ++ PW))) H locs := hH
      refine z_st (st' := []) rfl ?_
      refine z_goto hC 46 68 dX1_text_46 rfl ?_
      refine z_aload_n hC 68 hl dX1_text_68 rfl 1 rfl ?_
      refine zp_get (v := .ref (ad 200)) hC hH.1 69 in_X1 rfl 4 (by decide) q210 0 rfl (rfl) dX1_text_69 ?_
      refine z_aload_n hC 72 hl dX1_text_72 rfl 0 rfl ?_
      refine zp_getN (v := .ref x10) hC hH.1 73 in_X8 rfl 1 (by decide) q316 63 rfl rfl dX1_text_73 ?_
      refine z_sub (wc := rw3 G (ad 200) (ad 201) (ad 202) (F1 200) (Ar 201) (Ar 202) ++ rw3 G x10 x7 x15 (m2 : Int) (fun j => (v2 j : Int)) (fun j => (w2 j : Int))) (z_runV hC hH.2.2 hl.1 (z_subP hH.1 [11, 12, 13, 60, 61, 62] rfl) (z_subD hH.2.1 [11, 12, 13, 60, 61, 62] (by decide) rfl) 1 (As := [.ref x10]) (rest := []) (m_X2_like lau s0 G _ (ad 200) (ad 201) (ad 202) (F1 200) (Ar 201) (Ar 202) x10 x7 x15 (m2 : Int) (fun j => (v2 j : Int)) (fun j => (w2 j : Int))) (lw_V q690 q691 q692 q90 q693) ⟨rfl, by decide, by decide, by decide +kernel⟩ (q0 := 0) (ci := 2) rfl rfl rfl rfl (Nat.le_of_ble_eq_true rfl) ⟨Nat.le_of_ble_eq_true rfl, Nat.le_of_ble_eq_true rfl⟩ ⟨Nat.le_of_ble_eq_true rfl, Nat.le_of_ble_eq_true rfl⟩ dX1_text_76) hH [11, 12, 13, 60, 61, 62] rfl (by decide) (fun _ => rfl) (fun _ H locs _ hH => ?_)
      have hH : zH s0 s1 G as0 (dW ad G (va_up F1 200 (m2 : Int)) (va_up (va_up Ar 201 (fun j => (v2 j : Int))) 202 (fun j => (w2 j : Int))) kp pl ([(x10, .inr (2, [.ref x7, .ref x15, .int (iZ (m2 : Int))])), (x7, .inl (G.2 0, 120, .inl (zA (fun j => (v2 j : Int))))), (x15, .inl (G.2 0, 120, .inl (zA (fun j => (w2 j : Int)))))] ++ ([(x0, .inr (7, [.int (iZ (qn : Int)), .ref x10, .int (iZ (x : Int)), .int (iZ (e1 : Int)), .int (iZ M), .int (iZ (p : Int)), .int (iZ (l2 : Int)), .int (iZ (b2 : Int)), .int (iZ (t2 : Int)), .int (iZ (h2 : Int)), .int (iZ (k2 : Int)), wd2, .ref (ad 99)]))] ++ PW))) H locs := hH
      refine z_st (st' := [.ref (ad 200)]) rfl ?_
      refine z_pop hC 79 dX1_text_79 rfl ?_
      refine z_aload_n hC 80 hl dX1_text_80 rfl 1 rfl ?_
      refine z_aload_n hC 81 hl dX1_text_81 rfl 0 rfl ?_
      refine zp_getN (v := .int (iZ (l2 : Int))) hC hH.1 82 in_X8 rfl 6 (by decide) q321 63 rfl rfl dX1_text_82 ?_
      refine pD_6 hC hH 85 dX1_text_85 (fun H locs hH => ?_)
      have hH : zH s0 s1 G as0 (dW ad G (va_up (va_up F1 200 (m2 : Int)) 6 (l2 : Int)) (va_up (va_up Ar 201 (fun j => (v2 j : Int))) 202 (fun j => (w2 j : Int))) kp pl ([(x10, .inr (2, [.ref x7, .ref x15, .int (iZ (m2 : Int))])), (x7, .inl (G.2 0, 120, .inl (zA (fun j => (v2 j : Int))))), (x15, .inl (G.2 0, 120, .inl (zA (fun j => (w2 j : Int)))))] ++ ([(x0, .inr (7, [.int (iZ (qn : Int)), .ref x10, .int (iZ (x : Int)), .int (iZ (e1 : Int)), .int (iZ M), .int (iZ (p : Int)), .int (iZ (l2 : Int)), .int (iZ (b2 : Int)), .int (iZ (t2 : Int)), .int (iZ (h2 : Int)), .int (iZ (k2 : Int)), wd2, .ref (ad 99)]))] ++ PW))) H locs := hH
      refine z_aload_n hC 88 hl dX1_text_88 rfl 1 rfl ?_
      refine z_aload_n hC 89 hl dX1_text_89 rfl 0 rfl ?_
      refine zp_getN (v := .int (iZ (b2 : Int))) hC hH.1 90 in_X8 rfl 7 (by decide) q324 63 rfl rfl dX1_text_90 ?_
      refine pD_7 hC hH 93 dX1_text_93 (fun H locs hH => ?_)
      have hH : zH s0 s1 G as0 (dW ad G (va_up (va_up (va_up F1 200 (m2 : Int)) 6 (l2 : Int)) 7 (b2 : Int)) (va_up (va_up Ar 201 (fun j => (v2 j : Int))) 202 (fun j => (w2 j : Int))) kp pl ([(x10, .inr (2, [.ref x7, .ref x15, .int (iZ (m2 : Int))])), (x7, .inl (G.2 0, 120, .inl (zA (fun j => (v2 j : Int))))), (x15, .inl (G.2 0, 120, .inl (zA (fun j => (w2 j : Int)))))] ++ ([(x0, .inr (7, [.int (iZ (qn : Int)), .ref x10, .int (iZ (x : Int)), .int (iZ (e1 : Int)), .int (iZ M), .int (iZ (p : Int)), .int (iZ (l2 : Int)), .int (iZ (b2 : Int)), .int (iZ (t2 : Int)), .int (iZ (h2 : Int)), .int (iZ (k2 : Int)), wd2, .ref (ad 99)]))] ++ PW))) H locs := hH
      refine z_aload_n hC 96 hl dX1_text_96 rfl 1 rfl ?_
      refine z_aload_n hC 97 hl dX1_text_97 rfl 0 rfl ?_
      refine zp_getN (v := .int (iZ (t2 : Int))) hC hH.1 98 in_X8 rfl 8 (by decide) q325 63 rfl rfl dX1_text_98 ?_
      refine pD_8 hC hH 101 dX1_text_101 (fun H locs hH => ?_)
      have hH : zH s0 s1 G as0 (dW ad G (va_up (va_up (va_up (va_up F1 200 (m2 : Int)) 6 (l2 : Int)) 7 (b2 : Int)) 8 (t2 : Int)) (va_up (va_up Ar 201 (fun j => (v2 j : Int))) 202 (fun j => (w2 j : Int))) kp pl ([(x10, .inr (2, [.ref x7, .ref x15, .int (iZ (m2 : Int))])), (x7, .inl (G.2 0, 120, .inl (zA (fun j => (v2 j : Int))))), (x15, .inl (G.2 0, 120, .inl (zA (fun j => (w2 j : Int)))))] ++ ([(x0, .inr (7, [.int (iZ (qn : Int)), .ref x10, .int (iZ (x : Int)), .int (iZ (e1 : Int)), .int (iZ M), .int (iZ (p : Int)), .int (iZ (l2 : Int)), .int (iZ (b2 : Int)), .int (iZ (t2 : Int)), .int (iZ (h2 : Int)), .int (iZ (k2 : Int)), wd2, .ref (ad 99)]))] ++ PW))) H locs := hH
      refine z_aload_n hC 104 hl dX1_text_104 rfl 1 rfl ?_
      refine z_iconst hC 105 dX1_text_105 ?_
      refine pD_14 hC hH 106 dX1_text_106 (fun H locs hH => ?_)
      have hH : zH s0 s1 G as0 (dW ad G (va_up (va_up (va_up (va_up (va_up F1 200 (m2 : Int)) 6 (l2 : Int)) 7 (b2 : Int)) 8 (t2 : Int)) 14 (0)) (va_up (va_up Ar 201 (fun j => (v2 j : Int))) 202 (fun j => (w2 j : Int))) kp pl ([(x10, .inr (2, [.ref x7, .ref x15, .int (iZ (m2 : Int))])), (x7, .inl (G.2 0, 120, .inl (zA (fun j => (v2 j : Int))))), (x15, .inl (G.2 0, 120, .inl (zA (fun j => (w2 j : Int)))))] ++ ([(x0, .inr (7, [.int (iZ (qn : Int)), .ref x10, .int (iZ (x : Int)), .int (iZ (e1 : Int)), .int (iZ M), .int (iZ (p : Int)), .int (iZ (l2 : Int)), .int (iZ (b2 : Int)), .int (iZ (t2 : Int)), .int (iZ (h2 : Int)), .int (iZ (k2 : Int)), wd2, .ref (ad 99)]))] ++ PW))) H locs := hH
      refine z_aload_n hC 109 hl dX1_text_109 rfl 1 rfl ?_
      refine z_bipush hC 110 dX1_text_110 rfl ?_
      refine pD_9 hC hH 112 dX1_text_112 (fun H locs hH => ?_)
      have hH : zH s0 s1 G as0 (dW ad G (va_up (va_up (va_up (va_up (va_up (va_up F1 200 (m2 : Int)) 6 (l2 : Int)) 7 (b2 : Int)) 8 (t2 : Int)) 14 (0)) 9 (-2)) (va_up (va_up Ar 201 (fun j => (v2 j : Int))) 202 (fun j => (w2 j : Int))) kp pl ([(x10, .inr (2, [.ref x7, .ref x15, .int (iZ (m2 : Int))])), (x7, .inl (G.2 0, 120, .inl (zA (fun j => (v2 j : Int))))), (x15, .inl (G.2 0, 120, .inl (zA (fun j => (w2 j : Int)))))] ++ ([(x0, .inr (7, [.int (iZ (qn : Int)), .ref x10, .int (iZ (x : Int)), .int (iZ (e1 : Int)), .int (iZ M), .int (iZ (p : Int)), .int (iZ (l2 : Int)), .int (iZ (b2 : Int)), .int (iZ (t2 : Int)), .int (iZ (h2 : Int)), .int (iZ (k2 : Int)), wd2, .ref (ad 99)]))] ++ PW))) H locs := hH
      have hH : zH s0 s1 G as0 (dW ad G (va_up (va_up (va_up (va_up (va_up (va_up F1 200 (m2 : Int)) 6 (l2 : Int)) 7 (b2 : Int)) 8 (t2 : Int)) 14 (0)) 9 (-2)) (va_up (va_up Ar 201 (fun j => (v2 j : Int))) 202 (fun j => (w2 j : Int))) kp pl PW) H locs := zH_drop (a := dW0 ad G (va_up (va_up (va_up (va_up (va_up (va_up F1 200 (m2 : Int)) 6 (l2 : Int)) 7 (b2 : Int)) 8 (t2 : Int)) 14 (0)) 9 (-2)) (va_up (va_up Ar 201 (fun j => (v2 j : Int))) 202 (fun j => (w2 j : Int))) kp pl) (x := [(x10, .inr (2, [.ref x7, .ref x15, .int (iZ (m2 : Int))])), (x7, .inl (G.2 0, 120, .inl (zA (fun j => (v2 j : Int))))), (x15, .inl (G.2 0, 120, .inl (zA (fun j => (w2 j : Int)))))] ++ [(x0, .inr (7, [.int (iZ (qn : Int)), .ref x10, .int (iZ (x : Int)), .int (iZ (e1 : Int)), .int (iZ M), .int (iZ (p : Int)), .int (iZ (l2 : Int)), .int (iZ (b2 : Int)), .int (iZ (t2 : Int)), .int (iZ (h2 : Int)), .int (iZ (k2 : Int)), wd2, .ref (ad 99)]))]) hH
      obtain ⟨FB, hFBe⟩ : ∃ FB : Nat → Int, FB = (va_up (va_up (va_up (va_up (va_up (va_up F1 200 (m2 : Int)) 6 (l2 : Int)) 7 (b2 : Int)) 8 (t2 : Int)) 14 (0)) 9 (-2)) := ⟨_, rfl⟩
      obtain ⟨AB, hABe⟩ : ∃ AB : Nat → Nat → Int, AB = (va_up (va_up Ar 201 (fun j => (v2 j : Int))) 202 (fun j => (w2 j : Int))) := ⟨_, rfl⟩
      rw [← hFBe, ← hABe, hPWe] at hH
      have f200 : FB 200 = (m2 : Int) := by rw [hFBe]; rfl
      have f7 : FB 7 = (b2 : Int) := by rw [hFBe]; rfl
      have f8 : FB 8 = (t2 : Int) := by rw [hFBe]; rfl
      have a201 : ∀ i, i < m2 → AB 201 i = (v2 i : Int) := fun i _ => by rw [hABe]; rfl
      have a202 : ∀ i, i < m2 → AB 202 i = (w2 i : Int) := fun i _ => by rw [hABe]; rfl
      have hv2 : ∀ i, i < m2 → v2 i < 1000 := fun i hi => (hvw i hi).1
      refine z_aload_n hC 115 hl dX1_text_115 rfl 1 rfl ?_
      refine z_same (z_runV hC hH.2.2 hl.1 hH.1 hH.2.1 0 (As := []) (rest := []) (m_X1_laysPlaces lau s0 G _ ad FB AB kp pl L pr pa pm pf nw m2 v2 hm2 f200 hv2 a201 hS) (lw_V q695 q697 qs12 q89 q698) ⟨rfl, by decide, by decide, by decide +kernel⟩ (q0 := 0) (ci := 1) rfl rfl rfl rfl (Nat.le_of_ble_eq_true rfl) ⟨Nat.le_of_ble_eq_true rfl, Nat.le_of_ble_eq_true rfl⟩ ⟨Nat.le_of_ble_eq_true rfl, Nat.le_of_ble_eq_true rfl⟩ dX1_text_116) hH (fun u9 H locs hpost hH => ?_)
      obtain ⟨L2, pl2, pr2, pa2, pm2, pf2⟩ := u9
      obtain ⟨hS2, hpc2⟩ : PLS s0 G nw L2 pl2 pr2 pa2 pm2 pf2 ∧ ∀ y, y < 1000 → PlC m2 v2 y (pm2 y) (pf2 y) := hpost
      have hH : zH s0 s1 G as0 (dW ad G FB AB kp pl2 (dPool G pr2 pa2 pm2 pf2 L2)) H locs := hH
      refine z_st (st' := []) rfl ?_
      refine z_iconst hC 119 dX1_text_119 ?_
      refine z_istore_n (lv' := [(3, .int (iZ ((0 : Nat) : Int))), (2, .ref x0), (0, .ref (ad 99)), (1, .int (iZ (qn : Int)))]) hC 120 hl dX1_text_120 rfl (by decide) rfl (fun ls hl => ?_)
      have hn60 := blk_le (n := m2) hb2 hm2
      have LP : ∀ (d i : Nat) (a : Nat → Int) (ls : Array Slot) (H : Heap) (locs : List Loc), lv_has ls 4 [(3, .int (iZ (i : Int))), (2, .ref x0), (0, .ref (ad 99)), (1, .int (iZ (qn : Int)))] → i + d = zdiv (m2 + b2 - 1) b2 → MOD v2 b2 m2 t2 i a → zH s0 s1 G as0 (dW ad G FB (va_up AB 12 a) kp pl2 (dPool G pr2 pa2 pm2 pf2 L2)) H locs → W pg lau ev (zRm 10 15566 133867 310) s1 mi ar bl me cd H locs 15566 133867 Q (F0 mi 121 ls []) := by
        intro d
        induction d with
        | zero =>
            intro i a ls H locs hl hid hM hH
            refine z_iload_n hC 121 hl dX1_text_121 rfl 0 rfl ?_
            refine z_aload_n hC 122 hl dX1_text_122 rfl 2 rfl ?_
            refine zp_back (zp_runV hC hH.2.2 hl.1 (va_P_l hH.1) 0 (As := []) (rest := [.int (iZ (i : Int))]) (u_X1_blocks lau s0 G ad FB (va_up AB 12 a) kp pl2 m2 b2 hm2 f200 ⟨hb2, hb2b⟩ f7) (lw_V q719 q721 qs13 q89 q722) ⟨rfl, by decide, by decide, by decide +kernel⟩ (q0 := 0) (ci := 1) rfl rfl rfl rfl (Nat.le_of_ble_eq_true rfl) ⟨Nat.le_of_ble_eq_true rfl, Nat.le_of_ble_eq_true rfl⟩ ⟨by first | decide | omega, by first | decide | omega⟩ dX1_text_123) (fun _ _ => ?_)
            refine z_st (st' := [.int (iZ ((zdiv (m2 + b2 - 1) b2 : Nat) : Int)), .int (iZ (i : Int))]) rfl ?_
            refine z_icmp_ge_t hC 126 141 dX1_text_126 rfl (by omega) (by omega) (by omega) ?_
            refine z_aload_n hC 141 hl dX1_text_141 rfl 2 rfl ?_
            refine zp_get (v := .int (iZ (l2 : Int))) hC hH.1 142 in_X1 rfl 6 (by decide) q215 0 rfl (by rw [hFBe]; rfl) dX1_text_142 ?_
            exact z_iret hC hH hQ 145 ((l2 : Int), m2, v2, w2, b2, t2, (l2 : Int), 0, -2, 0, -1, 0, L2, pl2, pr2, pa2, pm2, pf2, FB, va_up AB 12 a) dX1_text_145 rfl ⟨Or.inr ⟨hqr, rfl, Or.inr ⟨m2, v2, w2, b2, t2, l2, hX, rfl, rfl, rfl, rfl, rfl, rfl, rfl, rfl, rfl, rfl, rfl⟩⟩, ⟨⟨hm2, f200, hv2, a201, fun i hi => (hvw i hi).2, a202⟩, ⟨⟨hb2, hb2b⟩, f7, by omega, f8⟩, ⟨Nat.zero_le _, by rw [hFBe]; rfl, hkt, fun k hk => absurd hk (Nat.not_lt_zero _)⟩, ⟨hS2, hpc2⟩, fun i1 j h1 h2 => hM i1 j (by have := (blk_lt (n := m2) (j := j) (show 0 < b2 by omega)).mpr h2; omega) h1 h2, by rw [hFBe]; rfl, by rw [hABe]; exact h16⟩, by rw [hFBe, hF1e]; rfl, by rw [hFBe, hF1e]; rfl, by rw [hFBe, hF1e]; rfl, by rw [hFBe]; rfl, by rw [hABe]; rfl⟩ rfl (Nat.le_refl _) (Nat.le_refl _)
        | succ d ih =>
            intro i a ls H locs hl hid hM hH
            refine z_iload_n hC 121 hl dX1_text_121 rfl 0 rfl ?_
            refine z_aload_n hC 122 hl dX1_text_122 rfl 2 rfl ?_
            refine zp_back (zp_runV hC hH.2.2 hl.1 (va_P_l hH.1) 0 (As := []) (rest := [.int (iZ (i : Int))]) (u_X1_blocks lau s0 G ad FB (va_up AB 12 a) kp pl2 m2 b2 hm2 f200 ⟨hb2, hb2b⟩ f7) (lw_V q719 q721 qs13 q89 q722) ⟨rfl, by decide, by decide, by decide +kernel⟩ (q0 := 0) (ci := 1) rfl rfl rfl rfl (Nat.le_of_ble_eq_true rfl) ⟨Nat.le_of_ble_eq_true rfl, Nat.le_of_ble_eq_true rfl⟩ ⟨by first | decide | omega, by first | decide | omega⟩ dX1_text_123) (fun _ _ => ?_)
            refine z_st (st' := [.int (iZ ((zdiv (m2 + b2 - 1) b2 : Nat) : Int)), .int (iZ (i : Int))]) rfl ?_
            refine z_icmp_ge_f hC 126 141 dX1_text_126 rfl (by omega) (by omega) (by omega) ?_
            refine z_aload_n hC 129 hl dX1_text_129 rfl 2 rfl ?_
            refine z_iload_n hC 130 hl dX1_text_130 rfl 0 rfl ?_
            refine z_iload_n hC 131 hl dX1_text_131 rfl 0 rfl ?_
            have hbi := (blk_lt (n := m2) (j := i) (show 0 < b2 by omega)).mp (by omega)
            have hi60 : i < 60 := by
              have h9 : 2 * i ≤ b2 * i := Nat.mul_le_mul_right i hb2
              omega
            have hpl2 : ∀ y, y < 1000 → (pl2 y = some (pr2 y) ∨ (pl2 y = none ∧ pr2 y = nw)) := fun y hy => by
              by_cases h : y ∈ L2
              · exact Or.inl (hS2.2.1 y h).2
              · exact Or.inr ⟨(hS2.2.2 y hy h).1, (hS2.2.2 y hy h).2.1⟩
            refine z_same (z_runV hC hH.2.2 hl.1 hH.1 hH.2.1 2 (As := [.int (iZ (i : Int)), .int (iZ (i : Int))]) (rest := []) (m_X1_laysPairs lau s0 G _ ad FB AB kp pl2 (dPool G pr2 pa2 pm2 pf2 L2) m2 v2 pr2 pa2 pm2 pf2 nw b2 t2 i i a hm2 f200 hv2 a201 ⟨hb2, hb2b⟩ f7 (by omega) f8 hpl2 hnw hpc2 (PLS_pool hS2) hbi (Nat.le_refl _) hi60) (lw_V q723 q725 qs14 q89 q726) ⟨rfl, by decide, by decide, by decide +kernel⟩ (q0 := 0) (ci := 1) rfl rfl rfl rfl (Nat.le_of_ble_eq_true rfl) ⟨Nat.le_of_ble_eq_true rfl, Nat.le_of_ble_eq_true rfl⟩ ⟨Nat.le_refl _, Nat.le_refl _⟩ dX1_text_132) hH (fun a2 H locs hpost hH => ?_)
            refine z_st (st' := []) rfl ?_
            refine z_iinc (lv' := [(3, .int (iZ ((i + 1 : Nat) : Int))), (2, .ref x0), (0, .ref (ad 99)), (1, .int (iZ (qn : Int)))]) hC 135 hl dX1_text_135 0 rfl (by omega) (by decide) rfl (fun ls hl => ?_)
            refine z_goto hC 138 121 dX1_text_138 rfl ?_
            exact ih (i + 1) a2 ls H locs hl (by omega) (MOD_s hb2 hm2 hM (by omega) hpost) hH
      exact W.widen (by decide) (by decide) (LP (zdiv (m2 + b2 - 1) b2) 0 (AB 12) ls H locs hl (by omega) (fun i1 j h => absurd h (Nat.not_lt_zero _)) (by rw [va_up_id rfl]; exact hH))
  · refine z_if_ne_f hC 11 17 dX1_text_11 rfl (by omega) (by omega) ?_
    refine z_bipush hC 14 dX1_text_14 rfl ?_
    exact z_iret hC hH hQ 16 (-2, n, v, wt, b, t, ln, un, fr, fa, fp, tp, L, pl, pr, pa, pm, pf, F, Ar) dX1_text_16 rfl ⟨Or.inl ⟨hqr, rfl, rfl, rfl, rfl, rfl, rfl, rfl, rfl, rfl, rfl, rfl, rfl⟩, hD0, hF1, hF2, hF3, hF6, rfl⟩ rfl (Nat.zero_le _) (Nat.zero_le _)
