set_option maxRecDepth 100000
/-! what the tables rest on, printed by facts.py -/
def am_C (n : Nat) : String := match n with
  | 0 => RX1
  | 1 => RX2
  | 2 => RX3
  | 3 => RX4
  | 4 => RX5
  | _ => RX6
def am_T (n : Nat) : u_T := match n with
  | 0 => TX1
  | 1 => TX2
  | 2 => TX3
  | 3 => TX4
  | 4 => TX5
  | _ => TX6
def am_N (n : Nat) : Nat := match n with
  | 0 => 27
  | 1 => 4
  | 2 => 8
  | 3 => 46
  | 4 => 11
  | _ => 4
def am_tf (n : Nat) : Nat → FieldType := match n with
  | 0 => tyX1
  | 1 => tyX2
  | 2 => tyX3
  | 3 => tyX4
  | 4 => tyX5
  | _ => tyX6
theorem am_clx : ∀ n, n < 6 → am_cl[n]? = some (am_C n, am_T n, am_N n) := fun n h => match n, h with
  | 0, _ => rfl
  | 1, _ => rfl
  | 2, _ => rfl
  | 3, _ => rfl
  | 4, _ => rfl
  | 5, _ => rfl
  | n + 6, h => absurd h (by omega)
theorem am_inx : ∀ n, n < 6 → ∀ w ∈ u_ws (am_C n) (am_T n) (am_N n), w ∈ lw_all := fun n h => match n, h with
  | 0, _ => in_X1
  | 1, _ => in_X2
  | 2, _ => in_X3
  | 3, _ => in_X4
  | 4, _ => in_X5
  | 5, _ => in_X6
  | n + 6, h => absurd h (by omega)
theorem am_tyx : ∀ n, n < 6 → ∀ k, k < am_N n → parseFieldDescriptor ((am_T n) k).2.2.1 = some (am_tf n k) := fun n h => match n, h with
  | 0, _ => tyX1_ok
  | 1, _ => tyX2_ok
  | 2, _ => tyX3_ok
  | 3, _ => tyX4_ok
  | 4, _ => tyX5_ok
  | 5, _ => tyX6_ok
  | n + 6, h => absurd h (by omega)
theorem am_nmx : ∀ n, n < 6 → ∀ a, a < am_N n → ∀ b, b < am_N n → a ≠ b → ((am_T n) a).2.1 ≠ ((am_T n) b).2.1 := fun n h => match n, h with
  | 0, _ => nmX1
  | 1, _ => nmX2
  | 2, _ => nmX3
  | 3, _ => nmX4
  | 4, _ => nmX5
  | 5, _ => nmX6
  | n + 6, h => absurd h (by omega)
theorem am_ibx : ∀ n, n < 6 → Cond.instantiable (am_C n) (am_N n) ∈ lw_all := fun n h => match n, h with
  | 0, _ => q67
  | 1, _ => q172
  | 2, _ => q203
  | 3, _ => q580
  | 4, _ => q363
  | 5, _ => q424
  | n + 6, h => absurd h (by omega)
theorem am_itx : ∀ n, n < 6 → Cond.initialized (am_C n) ∈ lw_all := fun n h => match n, h with
  | 0, _ => q43
  | 1, _ => q44
  | 2, _ => q47
  | 3, _ => q48
  | 4, _ => q54
  | 5, _ => q55
  | n + 6, h => absurd h (by omega)
theorem am_dfx : ∀ n, n < 6 → ∀ j, j < am_N n → defaultValue (am_tf n j) = vp_V (am_df n) j := fun n h => match n, h with
  | 0, _ => by decide +kernel
  | 1, _ => by decide +kernel
  | 2, _ => by decide +kernel
  | 3, _ => by decide +kernel
  | 4, _ => by decide +kernel
  | 5, _ => by decide +kernel
  | n + 6, h => absurd h (by omega)
theorem am_flx : ∀ x ∈ am_fl, x.2.2.1 < 6 ∧ x.2.2.2 < am_N x.2.2.1 ∧ Cond.fieldLink (am_ow x.1) x.2.1 ((am_T x.2.2.1) x.2.2.2).1 ((am_T x.2.2.1) x.2.2.2).2.1 ((am_T x.2.2.1) x.2.2.2).2.2.1 ∈ lw_all :=
  List.forall_mem_cons.mpr ⟨⟨by decide, by decide, q274⟩, List.forall_mem_cons.mpr ⟨⟨by decide, by decide, q273⟩, List.forall_mem_cons.mpr ⟨⟨by decide, by decide, q281⟩, List.forall_mem_cons.mpr ⟨⟨by decide, by decide, q275⟩, List.forall_mem_cons.mpr ⟨⟨by decide, by decide, q282⟩, List.forall_mem_cons.mpr ⟨⟨by decide, by decide, q283⟩, List.forall_mem_cons.mpr ⟨⟨by decide, by decide, q284⟩, List.forall_mem_cons.mpr ⟨⟨by decide, by decide, q279⟩, List.forall_mem_cons.mpr ⟨⟨by decide, by decide, q249⟩, List.forall_mem_cons.mpr ⟨⟨by decide, by decide, q250⟩, List.forall_mem_cons.mpr ⟨⟨by decide, by decide, q276⟩, List.forall_mem_cons.mpr ⟨⟨by decide, by decide, q180⟩, List.forall_mem_cons.mpr ⟨⟨by decide, by decide, q182⟩, List.forall_mem_cons.mpr ⟨⟨by decide, by decide, q278⟩, List.forall_mem_cons.mpr ⟨⟨by decide, by decide, q280⟩, List.forall_mem_cons.mpr ⟨⟨by decide, by decide, q184⟩, List.forall_mem_cons.mpr ⟨⟨by decide, by decide, q277⟩, List.forall_mem_cons.mpr ⟨⟨by decide, by decide, q285⟩, List.forall_mem_cons.mpr ⟨⟨by decide, by decide, q286⟩, List.forall_mem_cons.mpr ⟨⟨by decide, by decide, q287⟩, List.forall_mem_cons.mpr ⟨⟨by decide, by decide, q292⟩, List.forall_mem_cons.mpr ⟨⟨by decide, by decide, q293⟩, List.forall_mem_cons.mpr ⟨⟨by decide, by decide, q294⟩, List.forall_mem_cons.mpr ⟨⟨by decide, by decide, q295⟩, List.forall_mem_cons.mpr ⟨⟨by decide, by decide, q296⟩, List.forall_mem_cons.mpr ⟨⟨by decide, by decide, q297⟩, List.forall_mem_cons.mpr ⟨⟨by decide, by decide, q298⟩, List.forall_mem_cons.mpr ⟨⟨by decide, by decide, q299⟩, List.forall_mem_cons.mpr ⟨⟨by decide, by decide, q288⟩, List.forall_mem_cons.mpr ⟨⟨by decide, by decide, q289⟩, List.forall_mem_cons.mpr ⟨⟨by decide, by decide, q290⟩, List.forall_mem_cons.mpr ⟨⟨by decide, by decide, q375⟩, List.forall_mem_cons.mpr ⟨⟨by decide, by decide, q381⟩, List.forall_mem_cons.mpr ⟨⟨by decide, by decide, q369⟩, List.forall_mem_cons.mpr ⟨⟨by decide, by decide, q430⟩, List.forall_mem_cons.mpr ⟨⟨by decide, by decide, q371⟩, List.forall_mem_cons.mpr ⟨⟨by decide, by decide, q432⟩, List.forall_mem_cons.mpr ⟨⟨by decide, by decide, q377⟩, List.forall_mem_cons.mpr ⟨⟨by decide, by decide, q373⟩, List.forall_mem_cons.mpr ⟨⟨by decide, by decide, q434⟩, List.forall_mem_cons.mpr ⟨⟨by decide, by decide, q379⟩, List.forall_mem_cons.mpr ⟨⟨by decide, by decide, q436⟩, List.forall_mem_cons.mpr ⟨⟨by decide, by decide, q382⟩, List.forall_mem_cons.mpr ⟨⟨by decide, by decide, q291⟩, List.forall_mem_cons.mpr ⟨⟨by decide, by decide, q384⟩, List.forall_mem_cons.mpr ⟨⟨by decide, by decide, q386⟩, List.forall_mem_cons.mpr ⟨⟨by decide, by decide, q388⟩, List.forall_mem_cons.mpr ⟨⟨by decide, by decide, q178⟩, List.forall_mem_cons.mpr ⟨⟨by decide, by decide, q179⟩, List.forall_mem_cons.mpr ⟨⟨by decide, by decide, q181⟩, List.forall_mem_cons.mpr ⟨⟨by decide, by decide, q183⟩, List.forall_mem_cons.mpr ⟨⟨by decide, by decide, q586⟩, List.forall_mem_cons.mpr ⟨⟨by decide, by decide, q588⟩, List.forall_mem_cons.mpr ⟨⟨by decide, by decide, q589⟩, List.forall_mem_cons.mpr ⟨⟨by decide, by decide, q590⟩, List.forall_mem_cons.mpr ⟨⟨by decide, by decide, q591⟩, List.forall_mem_cons.mpr ⟨⟨by decide, by decide, q592⟩, List.forall_mem_cons.mpr ⟨⟨by decide, by decide, q602⟩, List.forall_mem_cons.mpr ⟨⟨by decide, by decide, q603⟩, List.forall_mem_cons.mpr ⟨⟨by decide, by decide, q604⟩, List.forall_mem_cons.mpr ⟨⟨by decide, by decide, q605⟩, List.forall_mem_cons.mpr ⟨⟨by decide, by decide, q606⟩, List.forall_mem_cons.mpr ⟨⟨by decide, by decide, q607⟩, List.forall_mem_cons.mpr ⟨⟨by decide, by decide, q608⟩, List.forall_mem_cons.mpr ⟨⟨by decide, by decide, q609⟩, List.forall_mem_cons.mpr ⟨⟨by decide, by decide, q610⟩, List.forall_mem_cons.mpr ⟨⟨by decide, by decide, q611⟩, List.forall_mem_cons.mpr ⟨⟨by decide, by decide, q612⟩, List.forall_mem_cons.mpr ⟨⟨by decide, by decide, q613⟩, List.forall_mem_cons.mpr ⟨⟨by decide, by decide, q614⟩, List.forall_mem_cons.mpr ⟨⟨by decide, by decide, q615⟩, List.forall_mem_cons.mpr ⟨⟨by decide, by decide, q616⟩, List.forall_mem_cons.mpr ⟨⟨by decide, by decide, q617⟩, List.forall_mem_cons.mpr ⟨⟨by decide, by decide, q622⟩, List.forall_mem_cons.mpr ⟨⟨by decide, by decide, q623⟩, List.forall_mem_cons.mpr ⟨⟨by decide, by decide, q624⟩, List.forall_mem_cons.mpr ⟨⟨by decide, by decide, q625⟩, List.forall_mem_cons.mpr ⟨⟨by decide, by decide, q626⟩, List.forall_mem_cons.mpr ⟨⟨by decide, by decide, q627⟩, List.forall_mem_cons.mpr ⟨⟨by decide, by decide, q628⟩, List.forall_mem_cons.mpr ⟨⟨by decide, by decide, q629⟩, List.forall_mem_cons.mpr ⟨⟨by decide, by decide, q585⟩, List.forall_mem_cons.mpr ⟨⟨by decide, by decide, q587⟩, List.forall_mem_cons.mpr ⟨⟨by decide, by decide, q593⟩, List.forall_mem_cons.mpr ⟨⟨by decide, by decide, q594⟩, List.forall_mem_cons.mpr ⟨⟨by decide, by decide, q595⟩, List.forall_mem_cons.mpr ⟨⟨by decide, by decide, q596⟩, List.forall_mem_cons.mpr ⟨⟨by decide, by decide, q601⟩, List.forall_mem_cons.mpr ⟨⟨by decide, by decide, q597⟩, List.forall_mem_cons.mpr ⟨⟨by decide, by decide, q598⟩, List.forall_mem_cons.mpr ⟨⟨by decide, by decide, q599⟩, List.forall_mem_cons.mpr ⟨⟨by decide, by decide, q600⟩, List.forall_mem_cons.mpr ⟨⟨by decide, by decide, q618⟩, List.forall_mem_cons.mpr ⟨⟨by decide, by decide, q619⟩, List.forall_mem_cons.mpr ⟨⟨by decide, by decide, q620⟩, List.forall_mem_cons.mpr ⟨⟨by decide, by decide, q630⟩, List.forall_mem_cons.mpr ⟨⟨by decide, by decide, q621⟩, List.forall_mem_cons.mpr ⟨⟨by decide, by decide, q374⟩, List.forall_mem_cons.mpr ⟨⟨by decide, by decide, q376⟩, List.forall_mem_cons.mpr ⟨⟨by decide, by decide, q380⟩, List.forall_mem_cons.mpr ⟨⟨by decide, by decide, q368⟩, List.forall_mem_cons.mpr ⟨⟨by decide, by decide, q370⟩, List.forall_mem_cons.mpr ⟨⟨by decide, by decide, q378⟩, List.forall_mem_cons.mpr ⟨⟨by decide, by decide, q372⟩, List.forall_mem_cons.mpr ⟨⟨by decide, by decide, q383⟩, List.forall_mem_cons.mpr ⟨⟨by decide, by decide, q385⟩, List.forall_mem_cons.mpr ⟨⟨by decide, by decide, q387⟩, List.forall_mem_cons.mpr ⟨⟨by decide, by decide, q429⟩, List.forall_mem_cons.mpr ⟨⟨by decide, by decide, q431⟩, List.forall_mem_cons.mpr ⟨⟨by decide, by decide, q433⟩, List.forall_mem_cons.mpr ⟨⟨by decide, by decide, q435⟩, (fun _ h => absurd h List.not_mem_nil)⟩⟩⟩⟩⟩⟩⟩⟩⟩⟩⟩⟩⟩⟩⟩⟩⟩⟩⟩⟩⟩⟩⟩⟩⟩⟩⟩⟩⟩⟩⟩⟩⟩⟩⟩⟩⟩⟩⟩⟩⟩⟩⟩⟩⟩⟩⟩⟩⟩⟩⟩⟩⟩⟩⟩⟩⟩⟩⟩⟩⟩⟩⟩⟩⟩⟩⟩⟩⟩⟩⟩⟩⟩⟩⟩⟩⟩⟩⟩⟩⟩⟩⟩⟩⟩⟩⟩⟩⟩⟩⟩⟩⟩⟩⟩⟩⟩⟩⟩⟩⟩⟩⟩⟩⟩⟩⟩⟩⟩⟩⟩
theorem am_mlx : ∀ x ∈ am_ml, (x.2.2 < 1000 → Cond.methodLink (am_ow x.1) x.2.1 (am_y x.2.2) ∈ lw_all ∧ x.2.2 < 98 ∧ x.2.2 ≠ k_X1_rules) ∧ (x.2.2 = 1000 → Cond.methodLink (am_ow x.1) x.2.1 objectInit ∈ lw_all) ∧ (x.2.2 = 1001 → Cond.methodLink (am_ow x.1) x.2.1 arraycopyName ∈ lw_all) ∧ (x.2.2 = 1002 → Cond.methodLink (am_ow x.1) x.2.1 Lib.Math.abs.name ∈ lw_all) ∧ (x.2.2 = 1003 → Cond.methodLink (am_ow x.1) x.2.1 Lib.Math.max.name ∈ lw_all) :=
  List.forall_mem_cons.mpr ⟨⟨fun _ => ⟨q64, by decide, by decide⟩, fun h => absurd h (by decide), fun h => absurd h (by decide), fun h => absurd h (by decide), fun h => absurd h (by decide)⟩, List.forall_mem_cons.mpr ⟨⟨fun _ => ⟨q86, by decide, by decide⟩, fun h => absurd h (by decide), fun h => absurd h (by decide), fun h => absurd h (by decide), fun h => absurd h (by decide)⟩, List.forall_mem_cons.mpr ⟨⟨fun _ => ⟨q90, by decide, by decide⟩, fun h => absurd h (by decide), fun h => absurd h (by decide), fun h => absurd h (by decide), fun h => absurd h (by decide)⟩, List.forall_mem_cons.mpr ⟨⟨fun _ => ⟨q93, by decide, by decide⟩, fun h => absurd h (by decide), fun h => absurd h (by decide), fun h => absurd h (by decide), fun h => absurd h (by decide)⟩, List.forall_mem_cons.mpr ⟨⟨fun _ => ⟨q82, by decide, by decide⟩, fun h => absurd h (by decide), fun h => absurd h (by decide), fun h => absurd h (by decide), fun h => absurd h (by decide)⟩, List.forall_mem_cons.mpr ⟨⟨fun _ => ⟨q96, by decide, by decide⟩, fun h => absurd h (by decide), fun h => absurd h (by decide), fun h => absurd h (by decide), fun h => absurd h (by decide)⟩, List.forall_mem_cons.mpr ⟨⟨fun _ => ⟨q148, by decide, by decide⟩, fun h => absurd h (by decide), fun h => absurd h (by decide), fun h => absurd h (by decide), fun h => absurd h (by decide)⟩, List.forall_mem_cons.mpr ⟨⟨fun _ => ⟨q78, by decide, by decide⟩, fun h => absurd h (by decide), fun h => absurd h (by decide), fun h => absurd h (by decide), fun h => absurd h (by decide)⟩, List.forall_mem_cons.mpr ⟨⟨fun h => absurd h (by decide), fun h => absurd h (by decide), fun _ => q152, fun h => absurd h (by decide), fun h => absurd h (by decide)⟩, List.forall_mem_cons.mpr ⟨⟨fun h => absurd h (by decide), fun _ => q167, fun h => absurd h (by decide), fun h => absurd h (by decide), fun h => absurd h (by decide)⟩, List.forall_mem_cons.mpr ⟨⟨fun _ => ⟨q174, by decide, by decide⟩, fun h => absurd h (by decide), fun h => absurd h (by decide), fun h => absurd h (by decide), fun h => absurd h (by decide)⟩, List.forall_mem_cons.mpr ⟨⟨fun _ => ⟨q240, by decide, by decide⟩, fun h => absurd h (by decide), fun h => absurd h (by decide), fun h => absurd h (by decide), fun h => absurd h (by decide)⟩, List.forall_mem_cons.mpr ⟨⟨fun _ => ⟨q360, by decide, by decide⟩, fun h => absurd h (by decide), fun h => absurd h (by decide), fun h => absurd h (by decide), fun h => absurd h (by decide)⟩, List.forall_mem_cons.mpr ⟨⟨fun _ => ⟨q364, by decide, by decide⟩, fun h => absurd h (by decide), fun h => absurd h (by decide), fun h => absurd h (by decide), fun h => absurd h (by decide)⟩, List.forall_mem_cons.mpr ⟨⟨fun _ => ⟨q416, by decide, by decide⟩, fun h => absurd h (by decide), fun h => absurd h (by decide), fun h => absurd h (by decide), fun h => absurd h (by decide)⟩, List.forall_mem_cons.mpr ⟨⟨fun _ => ⟨q425, by decide, by decide⟩, fun h => absurd h (by decide), fun h => absurd h (by decide), fun h => absurd h (by decide), fun h => absurd h (by decide)⟩, List.forall_mem_cons.mpr ⟨⟨fun h => absurd h (by decide), fun h => absurd h (by decide), fun h => absurd h (by decide), fun _ => q461, fun h => absurd h (by decide)⟩, List.forall_mem_cons.mpr ⟨⟨fun _ => ⟨q458, by decide, by decide⟩, fun h => absurd h (by decide), fun h => absurd h (by decide), fun h => absurd h (by decide), fun h => absurd h (by decide)⟩, List.forall_mem_cons.mpr ⟨⟨fun _ => ⟨q464, by decide, by decide⟩, fun h => absurd h (by decide), fun h => absurd h (by decide), fun h => absurd h (by decide), fun h => absurd h (by decide)⟩, List.forall_mem_cons.mpr ⟨⟨fun h => absurd h (by decide), fun h => absurd h (by decide), fun h => absurd h (by decide), fun h => absurd h (by decide), fun _ => q468⟩, List.forall_mem_cons.mpr ⟨⟨fun _ => ⟨q450, by decide, by decide⟩, fun h => absurd h (by decide), fun h => absurd h (by decide), fun h => absurd h (by decide), fun h => absurd h (by decide)⟩, List.forall_mem_cons.mpr ⟨⟨fun _ => ⟨q454, by decide, by decide⟩, fun h => absurd h (by decide), fun h => absurd h (by decide), fun h => absurd h (by decide), fun h => absurd h (by decide)⟩, List.forall_mem_cons.mpr ⟨⟨fun _ => ⟨q475, by decide, by decide⟩, fun h => absurd h (by decide), fun h => absurd h (by decide), fun h => absurd h (by decide), fun h => absurd h (by decide)⟩, List.forall_mem_cons.mpr ⟨⟨fun _ => ⟨q493, by decide, by decide⟩, fun h => absurd h (by decide), fun h => absurd h (by decide), fun h => absurd h (by decide), fun h => absurd h (by decide)⟩, List.forall_mem_cons.mpr ⟨⟨fun _ => ⟨q483, by decide, by decide⟩, fun h => absurd h (by decide), fun h => absurd h (by decide), fun h => absurd h (by decide), fun h => absurd h (by decide)⟩, List.forall_mem_cons.mpr ⟨⟨fun _ => ⟨q489, by decide, by decide⟩, fun h => absurd h (by decide), fun h => absurd h (by decide), fun h => absurd h (by decide), fun h => absurd h (by decide)⟩, List.forall_mem_cons.mpr ⟨⟨fun _ => ⟨q498, by decide, by decide⟩, fun h => absurd h (by decide), fun h => absurd h (by decide), fun h => absurd h (by decide), fun h => absurd h (by decide)⟩, List.forall_mem_cons.mpr ⟨⟨fun _ => ⟨q506, by decide, by decide⟩, fun h => absurd h (by decide), fun h => absurd h (by decide), fun h => absurd h (by decide), fun h => absurd h (by decide)⟩, List.forall_mem_cons.mpr ⟨⟨fun _ => ⟨q522, by decide, by decide⟩, fun h => absurd h (by decide), fun h => absurd h (by decide), fun h => absurd h (by decide), fun h => absurd h (by decide)⟩, List.forall_mem_cons.mpr ⟨⟨fun _ => ⟨q526, by decide, by decide⟩, fun h => absurd h (by decide), fun h => absurd h (by decide), fun h => absurd h (by decide), fun h => absurd h (by decide)⟩, List.forall_mem_cons.mpr ⟨⟨fun _ => ⟨q542, by decide, by decide⟩, fun h => absurd h (by decide), fun h => absurd h (by decide), fun h => absurd h (by decide), fun h => absurd h (by decide)⟩, List.forall_mem_cons.mpr ⟨⟨fun h => absurd h (by decide), fun _ => q177, fun h => absurd h (by decide), fun h => absurd h (by decide), fun h => absurd h (by decide)⟩, List.forall_mem_cons.mpr ⟨⟨fun h => absurd h (by decide), fun _ => q584, fun h => absurd h (by decide), fun h => absurd h (by decide), fun h => absurd h (by decide)⟩, List.forall_mem_cons.mpr ⟨⟨fun _ => ⟨q732, by decide, by decide⟩, fun h => absurd h (by decide), fun h => absurd h (by decide), fun h => absurd h (by decide), fun h => absurd h (by decide)⟩, List.forall_mem_cons.mpr ⟨⟨fun _ => ⟨q748, by decide, by decide⟩, fun h => absurd h (by decide), fun h => absurd h (by decide), fun h => absurd h (by decide), fun h => absurd h (by decide)⟩, List.forall_mem_cons.mpr ⟨⟨fun _ => ⟨q751, by decide, by decide⟩, fun h => absurd h (by decide), fun h => absurd h (by decide), fun h => absurd h (by decide), fun h => absurd h (by decide)⟩, List.forall_mem_cons.mpr ⟨⟨fun _ => ⟨q754, by decide, by decide⟩, fun h => absurd h (by decide), fun h => absurd h (by decide), fun h => absurd h (by decide), fun h => absurd h (by decide)⟩, List.forall_mem_cons.mpr ⟨⟨fun _ => ⟨q769, by decide, by decide⟩, fun h => absurd h (by decide), fun h => absurd h (by decide), fun h => absurd h (by decide), fun h => absurd h (by decide)⟩, List.forall_mem_cons.mpr ⟨⟨fun _ => ⟨q772, by decide, by decide⟩, fun h => absurd h (by decide), fun h => absurd h (by decide), fun h => absurd h (by decide), fun h => absurd h (by decide)⟩, List.forall_mem_cons.mpr ⟨⟨fun _ => ⟨q765, by decide, by decide⟩, fun h => absurd h (by decide), fun h => absurd h (by decide), fun h => absurd h (by decide), fun h => absurd h (by decide)⟩, List.forall_mem_cons.mpr ⟨⟨fun _ => ⟨q777, by decide, by decide⟩, fun h => absurd h (by decide), fun h => absurd h (by decide), fun h => absurd h (by decide), fun h => absurd h (by decide)⟩, List.forall_mem_cons.mpr ⟨⟨fun _ => ⟨q744, by decide, by decide⟩, fun h => absurd h (by decide), fun h => absurd h (by decide), fun h => absurd h (by decide), fun h => absurd h (by decide)⟩, List.forall_mem_cons.mpr ⟨⟨fun _ => ⟨q761, by decide, by decide⟩, fun h => absurd h (by decide), fun h => absurd h (by decide), fun h => absurd h (by decide), fun h => absurd h (by decide)⟩, List.forall_mem_cons.mpr ⟨⟨fun _ => ⟨q793, by decide, by decide⟩, fun h => absurd h (by decide), fun h => absurd h (by decide), fun h => absurd h (by decide), fun h => absurd h (by decide)⟩, List.forall_mem_cons.mpr ⟨⟨fun _ => ⟨q800, by decide, by decide⟩, fun h => absurd h (by decide), fun h => absurd h (by decide), fun h => absurd h (by decide), fun h => absurd h (by decide)⟩, List.forall_mem_cons.mpr ⟨⟨fun _ => ⟨q804, by decide, by decide⟩, fun h => absurd h (by decide), fun h => absurd h (by decide), fun h => absurd h (by decide), fun h => absurd h (by decide)⟩, List.forall_mem_cons.mpr ⟨⟨fun _ => ⟨q828, by decide, by decide⟩, fun h => absurd h (by decide), fun h => absurd h (by decide), fun h => absurd h (by decide), fun h => absurd h (by decide)⟩, List.forall_mem_cons.mpr ⟨⟨fun _ => ⟨q824, by decide, by decide⟩, fun h => absurd h (by decide), fun h => absurd h (by decide), fun h => absurd h (by decide), fun h => absurd h (by decide)⟩, List.forall_mem_cons.mpr ⟨⟨fun _ => ⟨q816, by decide, by decide⟩, fun h => absurd h (by decide), fun h => absurd h (by decide), fun h => absurd h (by decide), fun h => absurd h (by decide)⟩, List.forall_mem_cons.mpr ⟨⟨fun _ => ⟨q820, by decide, by decide⟩, fun h => absurd h (by decide), fun h => absurd h (by decide), fun h => absurd h (by decide), fun h => absurd h (by decide)⟩, List.forall_mem_cons.mpr ⟨⟨fun _ => ⟨q835, by decide, by decide⟩, fun h => absurd h (by decide), fun h => absurd h (by decide), fun h => absurd h (by decide), fun h => absurd h (by decide)⟩, List.forall_mem_cons.mpr ⟨⟨fun _ => ⟨q853, by decide, by decide⟩, fun h => absurd h (by decide), fun h => absurd h (by decide), fun h => absurd h (by decide), fun h => absurd h (by decide)⟩, List.forall_mem_cons.mpr ⟨⟨fun _ => ⟨q848, by decide, by decide⟩, fun h => absurd h (by decide), fun h => absurd h (by decide), fun h => absurd h (by decide), fun h => absurd h (by decide)⟩, List.forall_mem_cons.mpr ⟨⟨fun _ => ⟨q857, by decide, by decide⟩, fun h => absurd h (by decide), fun h => absurd h (by decide), fun h => absurd h (by decide), fun h => absurd h (by decide)⟩, List.forall_mem_cons.mpr ⟨⟨fun _ => ⟨q861, by decide, by decide⟩, fun h => absurd h (by decide), fun h => absurd h (by decide), fun h => absurd h (by decide), fun h => absurd h (by decide)⟩, List.forall_mem_cons.mpr ⟨⟨fun _ => ⟨q865, by decide, by decide⟩, fun h => absurd h (by decide), fun h => absurd h (by decide), fun h => absurd h (by decide), fun h => absurd h (by decide)⟩, List.forall_mem_cons.mpr ⟨⟨fun _ => ⟨q873, by decide, by decide⟩, fun h => absurd h (by decide), fun h => absurd h (by decide), fun h => absurd h (by decide), fun h => absurd h (by decide)⟩, List.forall_mem_cons.mpr ⟨⟨fun _ => ⟨q877, by decide, by decide⟩, fun h => absurd h (by decide), fun h => absurd h (by decide), fun h => absurd h (by decide), fun h => absurd h (by decide)⟩, List.forall_mem_cons.mpr ⟨⟨fun _ => ⟨q869, by decide, by decide⟩, fun h => absurd h (by decide), fun h => absurd h (by decide), fun h => absurd h (by decide), fun h => absurd h (by decide)⟩, List.forall_mem_cons.mpr ⟨⟨fun _ => ⟨q843, by decide, by decide⟩, fun h => absurd h (by decide), fun h => absurd h (by decide), fun h => absurd h (by decide), fun h => absurd h (by decide)⟩, List.forall_mem_cons.mpr ⟨⟨fun _ => ⟨q881, by decide, by decide⟩, fun h => absurd h (by decide), fun h => absurd h (by decide), fun h => absurd h (by decide), fun h => absurd h (by decide)⟩, List.forall_mem_cons.mpr ⟨⟨fun _ => ⟨q889, by decide, by decide⟩, fun h => absurd h (by decide), fun h => absurd h (by decide), fun h => absurd h (by decide), fun h => absurd h (by decide)⟩, List.forall_mem_cons.mpr ⟨⟨fun _ => ⟨q909, by decide, by decide⟩, fun h => absurd h (by decide), fun h => absurd h (by decide), fun h => absurd h (by decide), fun h => absurd h (by decide)⟩, List.forall_mem_cons.mpr ⟨⟨fun h => absurd h (by decide), fun _ => q367, fun h => absurd h (by decide), fun h => absurd h (by decide), fun h => absurd h (by decide)⟩, List.forall_mem_cons.mpr ⟨⟨fun h => absurd h (by decide), fun _ => q428, fun h => absurd h (by decide), fun h => absurd h (by decide), fun h => absurd h (by decide)⟩, (fun _ h => absurd h List.not_mem_nil)⟩⟩⟩⟩⟩⟩⟩⟩⟩⟩⟩⟩⟩⟩⟩⟩⟩⟩⟩⟩⟩⟩⟩⟩⟩⟩⟩⟩⟩⟩⟩⟩⟩⟩⟩⟩⟩⟩⟩⟩⟩⟩⟩⟩⟩⟩⟩⟩⟩⟩⟩⟩⟩⟩⟩⟩⟩⟩⟩⟩⟩⟩⟩⟩⟩
theorem am_cnx : ∀ x ∈ am_cn, (x.2.2 < 6 → Cond.classLink (am_ow x.1) x.2.1 (am_C x.2.2) ∈ lw_all) ∧ (100 ≤ x.2.2 → Cond.classLink (am_ow x.1) x.2.1 (am_C (am_el (x.2.2 - 100))) ∈ lw_all) :=
  List.forall_mem_cons.mpr ⟨⟨fun _ => q77, fun h => absurd h (by decide)⟩, List.forall_mem_cons.mpr ⟨⟨fun _ => q170, fun h => absurd h (by decide)⟩, List.forall_mem_cons.mpr ⟨⟨fun h => absurd h (by decide), fun _ => q170⟩, List.forall_mem_cons.mpr ⟨⟨fun _ => q269, fun h => absurd h (by decide)⟩, List.forall_mem_cons.mpr ⟨⟨fun h => absurd h (by decide), fun _ => q269⟩, List.forall_mem_cons.mpr ⟨⟨fun _ => q271, fun h => absurd h (by decide)⟩, List.forall_mem_cons.mpr ⟨⟨fun h => absurd h (by decide), fun _ => q271⟩, List.forall_mem_cons.mpr ⟨⟨fun h => absurd h (by decide), fun h => absurd h (by decide)⟩, (fun _ h => absurd h List.not_mem_nil)⟩⟩⟩⟩⟩⟩⟩⟩
theorem am_kix : ∀ x ∈ am_ki, Cond.constant (am_ow x.1) x.2.1 x.2.2 ∈ lw_all :=
  List.forall_mem_cons.mpr ⟨q497, List.forall_mem_cons.mpr ⟨q487, List.forall_mem_cons.mpr ⟨q488, List.forall_mem_cons.mpr ⟨q852, List.forall_mem_cons.mpr ⟨q847, List.forall_mem_cons.mpr ⟨q545, List.forall_mem_cons.mpr ⟨q546, List.forall_mem_cons.mpr ⟨q547, (fun _ h => absurd h List.not_mem_nil)⟩⟩⟩⟩⟩⟩⟩⟩
theorem am_klx : ∀ x ∈ am_kl, Cond.constantLong (am_ow x.1) x.2.1 x.2.2 ∈ lw_all :=
  List.forall_mem_cons.mpr ⟨q758, List.forall_mem_cons.mpr ⟨q759, List.forall_mem_cons.mpr ⟨q760, List.forall_mem_cons.mpr ⟨q776, (fun _ h => absurd h List.not_mem_nil)⟩⟩⟩⟩
def am_sx (n : Nat) : Nat := match n with
  | 0 => 104
  | 1 => 109
  | 2 => 111
  | 3 => 113
  | 4 => 115
  | 5 => 117
  | 6 => 119
  | 7 => 121
  | _ => 123
def am_tx (n : Nat) : String := match n with
  | 0 => "row"
  | 1 => "again"
  | 2 => "far"
  | 3 => "fair"
  | 4 => "won"
  | 5 => "lost"
  | 6 => "up"
  | 7 => "down"
  | _ => "of"
theorem am_slx : ∀ x ∈ am_sl, x.1 = 0 ∧ x.2.2 < 9 ∧ am_sx x.2.2 = x.2.1 :=
  List.forall_mem_cons.mpr ⟨⟨rfl, by decide, rfl⟩, List.forall_mem_cons.mpr ⟨⟨rfl, by decide, rfl⟩, List.forall_mem_cons.mpr ⟨⟨rfl, by decide, rfl⟩, List.forall_mem_cons.mpr ⟨⟨rfl, by decide, rfl⟩, List.forall_mem_cons.mpr ⟨⟨rfl, by decide, rfl⟩, List.forall_mem_cons.mpr ⟨⟨rfl, by decide, rfl⟩, List.forall_mem_cons.mpr ⟨⟨rfl, by decide, rfl⟩, List.forall_mem_cons.mpr ⟨⟨rfl, by decide, rfl⟩, List.forall_mem_cons.mpr ⟨⟨rfl, by decide, rfl⟩, (fun _ h => absurd h List.not_mem_nil)⟩⟩⟩⟩⟩⟩⟩⟩⟩
theorem am_codex : ∀ n, n < 98 → n ≠ k_X1_rules → Cond.code (am_y n) (am_b n) (am_mL n) (am_r n) ∈ lw_all := fun n h => match n, h with
  | 0, _ => fun _ => q63
  | 1, _ => fun _ => q68
  | 2, _ => fun _ => q72
  | 3, _ => fun h => absurd rfl h
  | 4, _ => fun _ => q81
  | 5, _ => fun _ => q85
  | 6, _ => fun _ => q89
  | 7, _ => fun _ => q92
  | 8, _ => fun _ => q95
  | 9, _ => fun _ => q151
  | 10, _ => fun _ => q158
  | 11, _ => fun _ => q162
  | 12, _ => fun _ => q166
  | 13, _ => fun _ => q359
  | 14, _ => fun _ => q362
  | 15, _ => fun _ => q415
  | 16, _ => fun _ => q419
  | 17, _ => fun _ => q423
  | 18, _ => fun _ => q449
  | 19, _ => fun _ => q453
  | 20, _ => fun _ => q457
  | 21, _ => fun _ => q460
  | 22, _ => fun _ => q467
  | 23, _ => fun _ => q474
  | 24, _ => fun _ => q478
  | 25, _ => fun _ => q482
  | 26, _ => fun _ => q486
  | 27, _ => fun _ => q492
  | 28, _ => fun _ => q496
  | 29, _ => fun _ => q501
  | 30, _ => fun _ => q505
  | 31, _ => fun _ => q509
  | 32, _ => fun _ => q513
  | 33, _ => fun _ => q517
  | 34, _ => fun _ => q521
  | 35, _ => fun _ => q525
  | 36, _ => fun _ => q533
  | 37, _ => fun _ => q537
  | 38, _ => fun _ => q541
  | 39, _ => fun _ => q555
  | 40, _ => fun _ => q99
  | 41, _ => fun _ => q176
  | 42, _ => fun _ => q242
  | 43, _ => fun _ => q583
  | 44, _ => fun _ => q727
  | 45, _ => fun _ => q731
  | 46, _ => fun _ => q735
  | 47, _ => fun _ => q739
  | 48, _ => fun _ => q743
  | 49, _ => fun _ => q747
  | 50, _ => fun _ => q750
  | 51, _ => fun _ => q753
  | 52, _ => fun _ => q757
  | 53, _ => fun _ => q764
  | 54, _ => fun _ => q768
  | 55, _ => fun _ => q771
  | 56, _ => fun _ => q775
  | 57, _ => fun _ => q780
  | 58, _ => fun _ => q784
  | 59, _ => fun _ => q788
  | 60, _ => fun _ => q792
  | 61, _ => fun _ => q795
  | 62, _ => fun _ => q799
  | 63, _ => fun _ => q803
  | 64, _ => fun _ => q807
  | 65, _ => fun _ => q811
  | 66, _ => fun _ => q815
  | 67, _ => fun _ => q819
  | 68, _ => fun _ => q823
  | 69, _ => fun _ => q827
  | 70, _ => fun _ => q830
  | 71, _ => fun _ => q834
  | 72, _ => fun _ => q838
  | 73, _ => fun _ => q842
  | 74, _ => fun _ => q846
  | 75, _ => fun _ => q851
  | 76, _ => fun _ => q856
  | 77, _ => fun _ => q860
  | 78, _ => fun _ => q864
  | 79, _ => fun _ => q868
  | 80, _ => fun _ => q872
  | 81, _ => fun _ => q876
  | 82, _ => fun _ => q880
  | 83, _ => fun _ => q884
  | 84, _ => fun _ => q888
  | 85, _ => fun _ => q892
  | 86, _ => fun _ => q896
  | 87, _ => fun _ => q900
  | 88, _ => fun _ => q904
  | 89, _ => fun _ => q908
  | 90, _ => fun _ => q912
  | 91, _ => fun _ => q916
  | 92, _ => fun _ => q920
  | 93, _ => fun _ => q924
  | 94, _ => fun _ => q366
  | 95, _ => fun _ => q529
  | 96, _ => fun _ => q427
  | 97, _ => fun _ => q544
  | n + 98, h => absurd h (by omega)
theorem am_initx : ∀ n, n < 98 → Cond.initialized (am_y n).cls ∈ lw_all := fun n h => match n, h with
  | 0, _ => q43
  | 1, _ => q43
  | 2, _ => q43
  | 3, _ => q43
  | 4, _ => q43
  | 5, _ => q43
  | 6, _ => q43
  | 7, _ => q43
  | 8, _ => q43
  | 9, _ => q43
  | 10, _ => q43
  | 11, _ => q43
  | 12, _ => q43
  | 13, _ => q43
  | 14, _ => q43
  | 15, _ => q43
  | 16, _ => q43
  | 17, _ => q43
  | 18, _ => q43
  | 19, _ => q43
  | 20, _ => q43
  | 21, _ => q43
  | 22, _ => q43
  | 23, _ => q43
  | 24, _ => q43
  | 25, _ => q43
  | 26, _ => q43
  | 27, _ => q43
  | 28, _ => q43
  | 29, _ => q43
  | 30, _ => q43
  | 31, _ => q43
  | 32, _ => q43
  | 33, _ => q43
  | 34, _ => q43
  | 35, _ => q43
  | 36, _ => q43
  | 37, _ => q43
  | 38, _ => q43
  | 39, _ => q43
  | 40, _ => q44
  | 41, _ => q44
  | 42, _ => q47
  | 43, _ => q48
  | 44, _ => q48
  | 45, _ => q48
  | 46, _ => q48
  | 47, _ => q48
  | 48, _ => q48
  | 49, _ => q48
  | 50, _ => q48
  | 51, _ => q48
  | 52, _ => q48
  | 53, _ => q48
  | 54, _ => q48
  | 55, _ => q48
  | 56, _ => q48
  | 57, _ => q48
  | 58, _ => q48
  | 59, _ => q48
  | 60, _ => q48
  | 61, _ => q48
  | 62, _ => q48
  | 63, _ => q48
  | 64, _ => q48
  | 65, _ => q48
  | 66, _ => q48
  | 67, _ => q48
  | 68, _ => q48
  | 69, _ => q48
  | 70, _ => q48
  | 71, _ => q48
  | 72, _ => q48
  | 73, _ => q48
  | 74, _ => q48
  | 75, _ => q48
  | 76, _ => q48
  | 77, _ => q48
  | 78, _ => q48
  | 79, _ => q48
  | 80, _ => q48
  | 81, _ => q48
  | 82, _ => q48
  | 83, _ => q48
  | 84, _ => q48
  | 85, _ => q48
  | 86, _ => q48
  | 87, _ => q48
  | 88, _ => q48
  | 89, _ => q48
  | 90, _ => q48
  | 91, _ => q48
  | 92, _ => q48
  | 93, _ => q48
  | 94, _ => q54
  | 95, _ => q54
  | 96, _ => q55
  | 97, _ => q59
  | n + 98, h => absurd h (by omega)
theorem am_plx : ∀ n, n < 98 → plainName (am_y n).cls = true ∧ ((am_y n).cls ≠ "java/lang/invoke/MethodHandle" ∧ (am_y n).cls ≠ "java/lang/invoke/VarHandle") ∧ (parseMethodDescriptor (am_y n).desc).map (fun d => d.parameters.length) = some (am_mN n - if am_mK n = 1 then 0 else 1) ∧ am_mL n ≤ 16 ∧ (am_y n).cls = am_ow (am_mO n) ∧ (am_mK n = 1 ∨ 1 ≤ am_mN n) := fun n h => match n, h with
  | 0, _ => ⟨by decide +kernel, ⟨by decide +kernel, by decide +kernel⟩, by decide +kernel, by decide, rfl, by decide⟩
  | 1, _ => ⟨by decide +kernel, ⟨by decide +kernel, by decide +kernel⟩, by decide +kernel, by decide, rfl, by decide⟩
  | 2, _ => ⟨by decide +kernel, ⟨by decide +kernel, by decide +kernel⟩, by decide +kernel, by decide, rfl, by decide⟩
  | 3, _ => ⟨by decide +kernel, ⟨by decide +kernel, by decide +kernel⟩, by decide +kernel, by decide, rfl, by decide⟩
  | 4, _ => ⟨by decide +kernel, ⟨by decide +kernel, by decide +kernel⟩, by decide +kernel, by decide, rfl, by decide⟩
  | 5, _ => ⟨by decide +kernel, ⟨by decide +kernel, by decide +kernel⟩, by decide +kernel, by decide, rfl, by decide⟩
  | 6, _ => ⟨by decide +kernel, ⟨by decide +kernel, by decide +kernel⟩, by decide +kernel, by decide, rfl, by decide⟩
  | 7, _ => ⟨by decide +kernel, ⟨by decide +kernel, by decide +kernel⟩, by decide +kernel, by decide, rfl, by decide⟩
  | 8, _ => ⟨by decide +kernel, ⟨by decide +kernel, by decide +kernel⟩, by decide +kernel, by decide, rfl, by decide⟩
  | 9, _ => ⟨by decide +kernel, ⟨by decide +kernel, by decide +kernel⟩, by decide +kernel, by decide, rfl, by decide⟩
  | 10, _ => ⟨by decide +kernel, ⟨by decide +kernel, by decide +kernel⟩, by decide +kernel, by decide, rfl, by decide⟩
  | 11, _ => ⟨by decide +kernel, ⟨by decide +kernel, by decide +kernel⟩, by decide +kernel, by decide, rfl, by decide⟩
  | 12, _ => ⟨by decide +kernel, ⟨by decide +kernel, by decide +kernel⟩, by decide +kernel, by decide, rfl, by decide⟩
  | 13, _ => ⟨by decide +kernel, ⟨by decide +kernel, by decide +kernel⟩, by decide +kernel, by decide, rfl, by decide⟩
  | 14, _ => ⟨by decide +kernel, ⟨by decide +kernel, by decide +kernel⟩, by decide +kernel, by decide, rfl, by decide⟩
  | 15, _ => ⟨by decide +kernel, ⟨by decide +kernel, by decide +kernel⟩, by decide +kernel, by decide, rfl, by decide⟩
  | 16, _ => ⟨by decide +kernel, ⟨by decide +kernel, by decide +kernel⟩, by decide +kernel, by decide, rfl, by decide⟩
  | 17, _ => ⟨by decide +kernel, ⟨by decide +kernel, by decide +kernel⟩, by decide +kernel, by decide, rfl, by decide⟩
  | 18, _ => ⟨by decide +kernel, ⟨by decide +kernel, by decide +kernel⟩, by decide +kernel, by decide, rfl, by decide⟩
  | 19, _ => ⟨by decide +kernel, ⟨by decide +kernel, by decide +kernel⟩, by decide +kernel, by decide, rfl, by decide⟩
  | 20, _ => ⟨by decide +kernel, ⟨by decide +kernel, by decide +kernel⟩, by decide +kernel, by decide, rfl, by decide⟩
  | 21, _ => ⟨by decide +kernel, ⟨by decide +kernel, by decide +kernel⟩, by decide +kernel, by decide, rfl, by decide⟩
  | 22, _ => ⟨by decide +kernel, ⟨by decide +kernel, by decide +kernel⟩, by decide +kernel, by decide, rfl, by decide⟩
  | 23, _ => ⟨by decide +kernel, ⟨by decide +kernel, by decide +kernel⟩, by decide +kernel, by decide, rfl, by decide⟩
  | 24, _ => ⟨by decide +kernel, ⟨by decide +kernel, by decide +kernel⟩, by decide +kernel, by decide, rfl, by decide⟩
  | 25, _ => ⟨by decide +kernel, ⟨by decide +kernel, by decide +kernel⟩, by decide +kernel, by decide, rfl, by decide⟩
  | 26, _ => ⟨by decide +kernel, ⟨by decide +kernel, by decide +kernel⟩, by decide +kernel, by decide, rfl, by decide⟩
  | 27, _ => ⟨by decide +kernel, ⟨by decide +kernel, by decide +kernel⟩, by decide +kernel, by decide, rfl, by decide⟩
  | 28, _ => ⟨by decide +kernel, ⟨by decide +kernel, by decide +kernel⟩, by decide +kernel, by decide, rfl, by decide⟩
  | 29, _ => ⟨by decide +kernel, ⟨by decide +kernel, by decide +kernel⟩, by decide +kernel, by decide, rfl, by decide⟩
  | 30, _ => ⟨by decide +kernel, ⟨by decide +kernel, by decide +kernel⟩, by decide +kernel, by decide, rfl, by decide⟩
  | 31, _ => ⟨by decide +kernel, ⟨by decide +kernel, by decide +kernel⟩, by decide +kernel, by decide, rfl, by decide⟩
  | 32, _ => ⟨by decide +kernel, ⟨by decide +kernel, by decide +kernel⟩, by decide +kernel, by decide, rfl, by decide⟩
  | 33, _ => ⟨by decide +kernel, ⟨by decide +kernel, by decide +kernel⟩, by decide +kernel, by decide, rfl, by decide⟩
  | 34, _ => ⟨by decide +kernel, ⟨by decide +kernel, by decide +kernel⟩, by decide +kernel, by decide, rfl, by decide⟩
  | 35, _ => ⟨by decide +kernel, ⟨by decide +kernel, by decide +kernel⟩, by decide +kernel, by decide, rfl, by decide⟩
  | 36, _ => ⟨by decide +kernel, ⟨by decide +kernel, by decide +kernel⟩, by decide +kernel, by decide, rfl, by decide⟩
  | 37, _ => ⟨by decide +kernel, ⟨by decide +kernel, by decide +kernel⟩, by decide +kernel, by decide, rfl, by decide⟩
  | 38, _ => ⟨by decide +kernel, ⟨by decide +kernel, by decide +kernel⟩, by decide +kernel, by decide, rfl, by decide⟩
  | 39, _ => ⟨by decide +kernel, ⟨by decide +kernel, by decide +kernel⟩, by decide +kernel, by decide, rfl, by decide⟩
  | 40, _ => ⟨by decide +kernel, ⟨by decide +kernel, by decide +kernel⟩, by decide +kernel, by decide, rfl, by decide⟩
  | 41, _ => ⟨by decide +kernel, ⟨by decide +kernel, by decide +kernel⟩, by decide +kernel, by decide, rfl, by decide⟩
  | 42, _ => ⟨by decide +kernel, ⟨by decide +kernel, by decide +kernel⟩, by decide +kernel, by decide, rfl, by decide⟩
  | 43, _ => ⟨by decide +kernel, ⟨by decide +kernel, by decide +kernel⟩, by decide +kernel, by decide, rfl, by decide⟩
  | 44, _ => ⟨by decide +kernel, ⟨by decide +kernel, by decide +kernel⟩, by decide +kernel, by decide, rfl, by decide⟩
  | 45, _ => ⟨by decide +kernel, ⟨by decide +kernel, by decide +kernel⟩, by decide +kernel, by decide, rfl, by decide⟩
  | 46, _ => ⟨by decide +kernel, ⟨by decide +kernel, by decide +kernel⟩, by decide +kernel, by decide, rfl, by decide⟩
  | 47, _ => ⟨by decide +kernel, ⟨by decide +kernel, by decide +kernel⟩, by decide +kernel, by decide, rfl, by decide⟩
  | 48, _ => ⟨by decide +kernel, ⟨by decide +kernel, by decide +kernel⟩, by decide +kernel, by decide, rfl, by decide⟩
  | 49, _ => ⟨by decide +kernel, ⟨by decide +kernel, by decide +kernel⟩, by decide +kernel, by decide, rfl, by decide⟩
  | 50, _ => ⟨by decide +kernel, ⟨by decide +kernel, by decide +kernel⟩, by decide +kernel, by decide, rfl, by decide⟩
  | 51, _ => ⟨by decide +kernel, ⟨by decide +kernel, by decide +kernel⟩, by decide +kernel, by decide, rfl, by decide⟩
  | 52, _ => ⟨by decide +kernel, ⟨by decide +kernel, by decide +kernel⟩, by decide +kernel, by decide, rfl, by decide⟩
  | 53, _ => ⟨by decide +kernel, ⟨by decide +kernel, by decide +kernel⟩, by decide +kernel, by decide, rfl, by decide⟩
  | 54, _ => ⟨by decide +kernel, ⟨by decide +kernel, by decide +kernel⟩, by decide +kernel, by decide, rfl, by decide⟩
  | 55, _ => ⟨by decide +kernel, ⟨by decide +kernel, by decide +kernel⟩, by decide +kernel, by decide, rfl, by decide⟩
  | 56, _ => ⟨by decide +kernel, ⟨by decide +kernel, by decide +kernel⟩, by decide +kernel, by decide, rfl, by decide⟩
  | 57, _ => ⟨by decide +kernel, ⟨by decide +kernel, by decide +kernel⟩, by decide +kernel, by decide, rfl, by decide⟩
  | 58, _ => ⟨by decide +kernel, ⟨by decide +kernel, by decide +kernel⟩, by decide +kernel, by decide, rfl, by decide⟩
  | 59, _ => ⟨by decide +kernel, ⟨by decide +kernel, by decide +kernel⟩, by decide +kernel, by decide, rfl, by decide⟩
  | 60, _ => ⟨by decide +kernel, ⟨by decide +kernel, by decide +kernel⟩, by decide +kernel, by decide, rfl, by decide⟩
  | 61, _ => ⟨by decide +kernel, ⟨by decide +kernel, by decide +kernel⟩, by decide +kernel, by decide, rfl, by decide⟩
  | 62, _ => ⟨by decide +kernel, ⟨by decide +kernel, by decide +kernel⟩, by decide +kernel, by decide, rfl, by decide⟩
  | 63, _ => ⟨by decide +kernel, ⟨by decide +kernel, by decide +kernel⟩, by decide +kernel, by decide, rfl, by decide⟩
  | 64, _ => ⟨by decide +kernel, ⟨by decide +kernel, by decide +kernel⟩, by decide +kernel, by decide, rfl, by decide⟩
  | 65, _ => ⟨by decide +kernel, ⟨by decide +kernel, by decide +kernel⟩, by decide +kernel, by decide, rfl, by decide⟩
  | 66, _ => ⟨by decide +kernel, ⟨by decide +kernel, by decide +kernel⟩, by decide +kernel, by decide, rfl, by decide⟩
  | 67, _ => ⟨by decide +kernel, ⟨by decide +kernel, by decide +kernel⟩, by decide +kernel, by decide, rfl, by decide⟩
  | 68, _ => ⟨by decide +kernel, ⟨by decide +kernel, by decide +kernel⟩, by decide +kernel, by decide, rfl, by decide⟩
  | 69, _ => ⟨by decide +kernel, ⟨by decide +kernel, by decide +kernel⟩, by decide +kernel, by decide, rfl, by decide⟩
  | 70, _ => ⟨by decide +kernel, ⟨by decide +kernel, by decide +kernel⟩, by decide +kernel, by decide, rfl, by decide⟩
  | 71, _ => ⟨by decide +kernel, ⟨by decide +kernel, by decide +kernel⟩, by decide +kernel, by decide, rfl, by decide⟩
  | 72, _ => ⟨by decide +kernel, ⟨by decide +kernel, by decide +kernel⟩, by decide +kernel, by decide, rfl, by decide⟩
  | 73, _ => ⟨by decide +kernel, ⟨by decide +kernel, by decide +kernel⟩, by decide +kernel, by decide, rfl, by decide⟩
  | 74, _ => ⟨by decide +kernel, ⟨by decide +kernel, by decide +kernel⟩, by decide +kernel, by decide, rfl, by decide⟩
  | 75, _ => ⟨by decide +kernel, ⟨by decide +kernel, by decide +kernel⟩, by decide +kernel, by decide, rfl, by decide⟩
  | 76, _ => ⟨by decide +kernel, ⟨by decide +kernel, by decide +kernel⟩, by decide +kernel, by decide, rfl, by decide⟩
  | 77, _ => ⟨by decide +kernel, ⟨by decide +kernel, by decide +kernel⟩, by decide +kernel, by decide, rfl, by decide⟩
  | 78, _ => ⟨by decide +kernel, ⟨by decide +kernel, by decide +kernel⟩, by decide +kernel, by decide, rfl, by decide⟩
  | 79, _ => ⟨by decide +kernel, ⟨by decide +kernel, by decide +kernel⟩, by decide +kernel, by decide, rfl, by decide⟩
  | 80, _ => ⟨by decide +kernel, ⟨by decide +kernel, by decide +kernel⟩, by decide +kernel, by decide, rfl, by decide⟩
  | 81, _ => ⟨by decide +kernel, ⟨by decide +kernel, by decide +kernel⟩, by decide +kernel, by decide, rfl, by decide⟩
  | 82, _ => ⟨by decide +kernel, ⟨by decide +kernel, by decide +kernel⟩, by decide +kernel, by decide, rfl, by decide⟩
  | 83, _ => ⟨by decide +kernel, ⟨by decide +kernel, by decide +kernel⟩, by decide +kernel, by decide, rfl, by decide⟩
  | 84, _ => ⟨by decide +kernel, ⟨by decide +kernel, by decide +kernel⟩, by decide +kernel, by decide, rfl, by decide⟩
  | 85, _ => ⟨by decide +kernel, ⟨by decide +kernel, by decide +kernel⟩, by decide +kernel, by decide, rfl, by decide⟩
  | 86, _ => ⟨by decide +kernel, ⟨by decide +kernel, by decide +kernel⟩, by decide +kernel, by decide, rfl, by decide⟩
  | 87, _ => ⟨by decide +kernel, ⟨by decide +kernel, by decide +kernel⟩, by decide +kernel, by decide, rfl, by decide⟩
  | 88, _ => ⟨by decide +kernel, ⟨by decide +kernel, by decide +kernel⟩, by decide +kernel, by decide, rfl, by decide⟩
  | 89, _ => ⟨by decide +kernel, ⟨by decide +kernel, by decide +kernel⟩, by decide +kernel, by decide, rfl, by decide⟩
  | 90, _ => ⟨by decide +kernel, ⟨by decide +kernel, by decide +kernel⟩, by decide +kernel, by decide, rfl, by decide⟩
  | 91, _ => ⟨by decide +kernel, ⟨by decide +kernel, by decide +kernel⟩, by decide +kernel, by decide, rfl, by decide⟩
  | 92, _ => ⟨by decide +kernel, ⟨by decide +kernel, by decide +kernel⟩, by decide +kernel, by decide, rfl, by decide⟩
  | 93, _ => ⟨by decide +kernel, ⟨by decide +kernel, by decide +kernel⟩, by decide +kernel, by decide, rfl, by decide⟩
  | 94, _ => ⟨by decide +kernel, ⟨by decide +kernel, by decide +kernel⟩, by decide +kernel, by decide, rfl, by decide⟩
  | 95, _ => ⟨by decide +kernel, ⟨by decide +kernel, by decide +kernel⟩, by decide +kernel, by decide, rfl, by decide⟩
  | 96, _ => ⟨by decide +kernel, ⟨by decide +kernel, by decide +kernel⟩, by decide +kernel, by decide, rfl, by decide⟩
  | 97, _ => ⟨by decide +kernel, ⟨by decide +kernel, by decide +kernel⟩, by decide +kernel, by decide, rfl, by decide⟩
  | n + 98, h => absurd h (by omega)
theorem am_kdx : ∀ n, n < 98 → (am_mK n = 0 → Cond.instanceMethod (am_y n) ∈ lw_all ∧ Cond.selects (am_C (am_mC n)) (am_y n) (am_y n) ∈ lw_all ∧ am_mC n < 6 ∧ (am_y n).cls = am_C (am_mC n)) ∧ (am_mK n = 1 → Cond.static (am_y n) ∈ lw_all) ∧ (am_mK n = 2 → Cond.instanceMethod (am_y n) ∈ lw_all ∧ (am_y n).name = "<init>" ∧ am_r n = none ∧ am_mC n < 6 ∧ (am_y n).cls = am_C (am_mC n)) := fun n h => match n, h with
  | 0, _ => ⟨fun _ => ⟨q61, q62, by decide, rfl⟩, fun h => absurd h (by decide), fun h => absurd h (by decide)⟩
  | 1, _ => ⟨fun _ => ⟨q66, qs0, by decide, rfl⟩, fun h => absurd h (by decide), fun h => absurd h (by decide)⟩
  | 2, _ => ⟨fun _ => ⟨q70, q71, by decide, rfl⟩, fun h => absurd h (by decide), fun h => absurd h (by decide)⟩
  | 3, _ => ⟨fun _ => ⟨q74, q75, by decide, rfl⟩, fun h => absurd h (by decide), fun h => absurd h (by decide)⟩
  | 4, _ => ⟨fun _ => ⟨q80, qs1, by decide, rfl⟩, fun h => absurd h (by decide), fun h => absurd h (by decide)⟩
  | 5, _ => ⟨fun _ => ⟨q84, qs2, by decide, rfl⟩, fun h => absurd h (by decide), fun h => absurd h (by decide)⟩
  | 6, _ => ⟨fun _ => ⟨q88, qs3, by decide, rfl⟩, fun h => absurd h (by decide), fun h => absurd h (by decide)⟩
  | 7, _ => ⟨fun h => absurd h (by decide), fun _ => q91, fun h => absurd h (by decide)⟩
  | 8, _ => ⟨fun h => absurd h (by decide), fun _ => q94, fun h => absurd h (by decide)⟩
  | 9, _ => ⟨fun _ => ⟨q150, qs4, by decide, rfl⟩, fun h => absurd h (by decide), fun h => absurd h (by decide)⟩
  | 10, _ => ⟨fun _ => ⟨q156, q157, by decide, rfl⟩, fun h => absurd h (by decide), fun h => absurd h (by decide)⟩
  | 11, _ => ⟨fun _ => ⟨q160, q161, by decide, rfl⟩, fun h => absurd h (by decide), fun h => absurd h (by decide)⟩
  | 12, _ => ⟨fun h => absurd h (by decide), fun h => absurd h (by decide), fun _ => ⟨q165, rfl, rfl, by decide, rfl⟩⟩
  | 13, _ => ⟨fun _ => ⟨q357, q358, by decide, rfl⟩, fun h => absurd h (by decide), fun h => absurd h (by decide)⟩
  | 14, _ => ⟨fun h => absurd h (by decide), fun _ => q361, fun h => absurd h (by decide)⟩
  | 15, _ => ⟨fun _ => ⟨q413, q414, by decide, rfl⟩, fun h => absurd h (by decide), fun h => absurd h (by decide)⟩
  | 16, _ => ⟨fun _ => ⟨q418, qs6, by decide, rfl⟩, fun h => absurd h (by decide), fun h => absurd h (by decide)⟩
  | 17, _ => ⟨fun _ => ⟨q421, q422, by decide, rfl⟩, fun h => absurd h (by decide), fun h => absurd h (by decide)⟩
  | 18, _ => ⟨fun _ => ⟨q447, q448, by decide, rfl⟩, fun h => absurd h (by decide), fun h => absurd h (by decide)⟩
  | 19, _ => ⟨fun _ => ⟨q452, qs7, by decide, rfl⟩, fun h => absurd h (by decide), fun h => absurd h (by decide)⟩
  | 20, _ => ⟨fun _ => ⟨q456, qs8, by decide, rfl⟩, fun h => absurd h (by decide), fun h => absurd h (by decide)⟩
  | 21, _ => ⟨fun h => absurd h (by decide), fun _ => q459, fun h => absurd h (by decide)⟩
  | 22, _ => ⟨fun _ => ⟨q466, qs9, by decide, rfl⟩, fun h => absurd h (by decide), fun h => absurd h (by decide)⟩
  | 23, _ => ⟨fun _ => ⟨q472, q473, by decide, rfl⟩, fun h => absurd h (by decide), fun h => absurd h (by decide)⟩
  | 24, _ => ⟨fun _ => ⟨q477, qs10, by decide, rfl⟩, fun h => absurd h (by decide), fun h => absurd h (by decide)⟩
  | 25, _ => ⟨fun _ => ⟨q480, q481, by decide, rfl⟩, fun h => absurd h (by decide), fun h => absurd h (by decide)⟩
  | 26, _ => ⟨fun _ => ⟨q485, qs11, by decide, rfl⟩, fun h => absurd h (by decide), fun h => absurd h (by decide)⟩
  | 27, _ => ⟨fun _ => ⟨q491, qs12, by decide, rfl⟩, fun h => absurd h (by decide), fun h => absurd h (by decide)⟩
  | 28, _ => ⟨fun _ => ⟨q495, qs13, by decide, rfl⟩, fun h => absurd h (by decide), fun h => absurd h (by decide)⟩
  | 29, _ => ⟨fun _ => ⟨q500, qs14, by decide, rfl⟩, fun h => absurd h (by decide), fun h => absurd h (by decide)⟩
  | 30, _ => ⟨fun _ => ⟨q503, q504, by decide, rfl⟩, fun h => absurd h (by decide), fun h => absurd h (by decide)⟩
  | 31, _ => ⟨fun _ => ⟨q508, qs15, by decide, rfl⟩, fun h => absurd h (by decide), fun h => absurd h (by decide)⟩
  | 32, _ => ⟨fun _ => ⟨q511, q512, by decide, rfl⟩, fun h => absurd h (by decide), fun h => absurd h (by decide)⟩
  | 33, _ => ⟨fun _ => ⟨q515, q516, by decide, rfl⟩, fun h => absurd h (by decide), fun h => absurd h (by decide)⟩
  | 34, _ => ⟨fun _ => ⟨q519, q520, by decide, rfl⟩, fun h => absurd h (by decide), fun h => absurd h (by decide)⟩
  | 35, _ => ⟨fun _ => ⟨q524, qs16, by decide, rfl⟩, fun h => absurd h (by decide), fun h => absurd h (by decide)⟩
  | 36, _ => ⟨fun _ => ⟨q531, q532, by decide, rfl⟩, fun h => absurd h (by decide), fun h => absurd h (by decide)⟩
  | 37, _ => ⟨fun _ => ⟨q535, q536, by decide, rfl⟩, fun h => absurd h (by decide), fun h => absurd h (by decide)⟩
  | 38, _ => ⟨fun _ => ⟨q539, q540, by decide, rfl⟩, fun h => absurd h (by decide), fun h => absurd h (by decide)⟩
  | 39, _ => ⟨fun _ => ⟨q553, q554, by decide, rfl⟩, fun h => absurd h (by decide), fun h => absurd h (by decide)⟩
  | 40, _ => ⟨fun _ => ⟨q97, q98, by decide, rfl⟩, fun h => absurd h (by decide), fun h => absurd h (by decide)⟩
  | 41, _ => ⟨fun h => absurd h (by decide), fun h => absurd h (by decide), fun _ => ⟨q175, rfl, rfl, by decide, rfl⟩⟩
  | 42, _ => ⟨fun h => absurd h (by decide), fun h => absurd h (by decide), fun _ => ⟨q241, rfl, rfl, by decide, rfl⟩⟩
  | 43, _ => ⟨fun h => absurd h (by decide), fun h => absurd h (by decide), fun _ => ⟨q582, rfl, rfl, by decide, rfl⟩⟩
  | 44, _ => ⟨fun _ => ⟨q725, q726, by decide, rfl⟩, fun h => absurd h (by decide), fun h => absurd h (by decide)⟩
  | 45, _ => ⟨fun _ => ⟨q729, q730, by decide, rfl⟩, fun h => absurd h (by decide), fun h => absurd h (by decide)⟩
  | 46, _ => ⟨fun _ => ⟨q734, qs17, by decide, rfl⟩, fun h => absurd h (by decide), fun h => absurd h (by decide)⟩
  | 47, _ => ⟨fun _ => ⟨q737, q738, by decide, rfl⟩, fun h => absurd h (by decide), fun h => absurd h (by decide)⟩
  | 48, _ => ⟨fun _ => ⟨q741, q742, by decide, rfl⟩, fun h => absurd h (by decide), fun h => absurd h (by decide)⟩
  | 49, _ => ⟨fun _ => ⟨q746, qs18, by decide, rfl⟩, fun h => absurd h (by decide), fun h => absurd h (by decide)⟩
  | 50, _ => ⟨fun h => absurd h (by decide), fun _ => q749, fun h => absurd h (by decide)⟩
  | 51, _ => ⟨fun h => absurd h (by decide), fun _ => q752, fun h => absurd h (by decide)⟩
  | 52, _ => ⟨fun _ => ⟨q756, qs19, by decide, rfl⟩, fun h => absurd h (by decide), fun h => absurd h (by decide)⟩
  | 53, _ => ⟨fun _ => ⟨q763, qs20, by decide, rfl⟩, fun h => absurd h (by decide), fun h => absurd h (by decide)⟩
  | 54, _ => ⟨fun _ => ⟨q767, qs21, by decide, rfl⟩, fun h => absurd h (by decide), fun h => absurd h (by decide)⟩
  | 55, _ => ⟨fun h => absurd h (by decide), fun _ => q770, fun h => absurd h (by decide)⟩
  | 56, _ => ⟨fun _ => ⟨q774, qs22, by decide, rfl⟩, fun h => absurd h (by decide), fun h => absurd h (by decide)⟩
  | 57, _ => ⟨fun _ => ⟨q779, qs23, by decide, rfl⟩, fun h => absurd h (by decide), fun h => absurd h (by decide)⟩
  | 58, _ => ⟨fun _ => ⟨q782, q783, by decide, rfl⟩, fun h => absurd h (by decide), fun h => absurd h (by decide)⟩
  | 59, _ => ⟨fun _ => ⟨q786, q787, by decide, rfl⟩, fun h => absurd h (by decide), fun h => absurd h (by decide)⟩
  | 60, _ => ⟨fun _ => ⟨q790, q791, by decide, rfl⟩, fun h => absurd h (by decide), fun h => absurd h (by decide)⟩
  | 61, _ => ⟨fun h => absurd h (by decide), fun _ => q794, fun h => absurd h (by decide)⟩
  | 62, _ => ⟨fun _ => ⟨q797, q798, by decide, rfl⟩, fun h => absurd h (by decide), fun h => absurd h (by decide)⟩
  | 63, _ => ⟨fun _ => ⟨q802, qs24, by decide, rfl⟩, fun h => absurd h (by decide), fun h => absurd h (by decide)⟩
  | 64, _ => ⟨fun _ => ⟨q806, qs25, by decide, rfl⟩, fun h => absurd h (by decide), fun h => absurd h (by decide)⟩
  | 65, _ => ⟨fun _ => ⟨q809, q810, by decide, rfl⟩, fun h => absurd h (by decide), fun h => absurd h (by decide)⟩
  | 66, _ => ⟨fun _ => ⟨q813, q814, by decide, rfl⟩, fun h => absurd h (by decide), fun h => absurd h (by decide)⟩
  | 67, _ => ⟨fun _ => ⟨q818, qs26, by decide, rfl⟩, fun h => absurd h (by decide), fun h => absurd h (by decide)⟩
  | 68, _ => ⟨fun _ => ⟨q822, qs27, by decide, rfl⟩, fun h => absurd h (by decide), fun h => absurd h (by decide)⟩
  | 69, _ => ⟨fun _ => ⟨q826, qs28, by decide, rfl⟩, fun h => absurd h (by decide), fun h => absurd h (by decide)⟩
  | 70, _ => ⟨fun h => absurd h (by decide), fun _ => q829, fun h => absurd h (by decide)⟩
  | 71, _ => ⟨fun _ => ⟨q832, q833, by decide, rfl⟩, fun h => absurd h (by decide), fun h => absurd h (by decide)⟩
  | 72, _ => ⟨fun _ => ⟨q837, qs29, by decide, rfl⟩, fun h => absurd h (by decide), fun h => absurd h (by decide)⟩
  | 73, _ => ⟨fun _ => ⟨q840, q841, by decide, rfl⟩, fun h => absurd h (by decide), fun h => absurd h (by decide)⟩
  | 74, _ => ⟨fun _ => ⟨q845, qs30, by decide, rfl⟩, fun h => absurd h (by decide), fun h => absurd h (by decide)⟩
  | 75, _ => ⟨fun _ => ⟨q850, qs31, by decide, rfl⟩, fun h => absurd h (by decide), fun h => absurd h (by decide)⟩
  | 76, _ => ⟨fun _ => ⟨q855, qs32, by decide, rfl⟩, fun h => absurd h (by decide), fun h => absurd h (by decide)⟩
  | 77, _ => ⟨fun _ => ⟨q859, qs33, by decide, rfl⟩, fun h => absurd h (by decide), fun h => absurd h (by decide)⟩
  | 78, _ => ⟨fun _ => ⟨q863, qs34, by decide, rfl⟩, fun h => absurd h (by decide), fun h => absurd h (by decide)⟩
  | 79, _ => ⟨fun _ => ⟨q867, qs35, by decide, rfl⟩, fun h => absurd h (by decide), fun h => absurd h (by decide)⟩
  | 80, _ => ⟨fun _ => ⟨q871, qs36, by decide, rfl⟩, fun h => absurd h (by decide), fun h => absurd h (by decide)⟩
  | 81, _ => ⟨fun _ => ⟨q875, qs37, by decide, rfl⟩, fun h => absurd h (by decide), fun h => absurd h (by decide)⟩
  | 82, _ => ⟨fun _ => ⟨q879, qs38, by decide, rfl⟩, fun h => absurd h (by decide), fun h => absurd h (by decide)⟩
  | 83, _ => ⟨fun _ => ⟨q883, qs39, by decide, rfl⟩, fun h => absurd h (by decide), fun h => absurd h (by decide)⟩
  | 84, _ => ⟨fun _ => ⟨q886, q887, by decide, rfl⟩, fun h => absurd h (by decide), fun h => absurd h (by decide)⟩
  | 85, _ => ⟨fun _ => ⟨q891, qs40, by decide, rfl⟩, fun h => absurd h (by decide), fun h => absurd h (by decide)⟩
  | 86, _ => ⟨fun _ => ⟨q894, q895, by decide, rfl⟩, fun h => absurd h (by decide), fun h => absurd h (by decide)⟩
  | 87, _ => ⟨fun _ => ⟨q898, q899, by decide, rfl⟩, fun h => absurd h (by decide), fun h => absurd h (by decide)⟩
  | 88, _ => ⟨fun _ => ⟨q902, q903, by decide, rfl⟩, fun h => absurd h (by decide), fun h => absurd h (by decide)⟩
  | 89, _ => ⟨fun _ => ⟨q906, q907, by decide, rfl⟩, fun h => absurd h (by decide), fun h => absurd h (by decide)⟩
  | 90, _ => ⟨fun _ => ⟨q911, qs41, by decide, rfl⟩, fun h => absurd h (by decide), fun h => absurd h (by decide)⟩
  | 91, _ => ⟨fun _ => ⟨q914, q915, by decide, rfl⟩, fun h => absurd h (by decide), fun h => absurd h (by decide)⟩
  | 92, _ => ⟨fun _ => ⟨q918, q919, by decide, rfl⟩, fun h => absurd h (by decide), fun h => absurd h (by decide)⟩
  | 93, _ => ⟨fun _ => ⟨q922, q923, by decide, rfl⟩, fun h => absurd h (by decide), fun h => absurd h (by decide)⟩
  | 94, _ => ⟨fun h => absurd h (by decide), fun h => absurd h (by decide), fun _ => ⟨q365, rfl, rfl, by decide, rfl⟩⟩
  | 95, _ => ⟨fun _ => ⟨q527, q528, by decide, rfl⟩, fun h => absurd h (by decide), fun h => absurd h (by decide)⟩
  | 96, _ => ⟨fun h => absurd h (by decide), fun h => absurd h (by decide), fun _ => ⟨q426, rfl, rfl, by decide, rfl⟩⟩
  | 97, _ => ⟨fun h => absurd h (by decide), fun _ => q543, fun h => absurd h (by decide)⟩
  | n + 98, h => absurd h (by omega)
